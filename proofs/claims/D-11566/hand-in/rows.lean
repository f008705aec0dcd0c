section
/-! The pure picture: arrays packed into naturals, a cell four bits wide; the class's methods over them.
    Written with Nat.rec and the kernel's own operations on naturals, so that the kernel computes it. -/
noncomputable section
def oe_rd (P k : Nat) : Nat := Nat.land (Nat.shiftRight P (Nat.mul 4 k)) 15
def oe_wr (P k v : Nat) : Nat := Nat.xor P (Nat.shiftLeft (Nat.xor (oe_rd P k) v) (Nat.mul 4 k))
/-- compute n first -/
def oe_fc (n : Nat) (k : Nat → Bool) : Bool := Nat.rec (motive := fun _ => Bool) (k 0) (fun m _ => k (Nat.succ m)) n
def oe_fn (n : Nat) (k : Nat → Nat) : Nat := Nat.rec (motive := fun _ => Nat) (k 0) (fun m _ => k (Nat.succ m)) n
def oe_gd (v : Nat) (k : Nat → Bool) : Bool := oe_fc v (fun v => cond (Nat.ble v 15) (k v) false)
def oe_an (a b : Bool) : Bool := cond a b false
def oe_al (p : Nat → Bool) (n : Nat) : Bool := Nat.rec (motive := fun _ => Bool) true (fun i ih => cond (p i) ih false) n
/-- the sum of a over the chain c, N c, .. -/
def oe_sm (N a : Nat → Nat) (n c : Nat) : Nat := Nat.rec (motive := fun _ => Nat → Nat) (fun _ => 0)
  (fun _ ih c => Nat.rec (motive := fun _ => Nat) 0 (fun c' _ => Nat.add (a (Nat.succ c')) (ih (N (Nat.succ c')))) c) n c
/-- level + 1 -/
def oe_lv (A : Nat → Nat) (n t : Nat) : Nat := Nat.rec (motive := fun _ => Nat → Nat) (fun _ => 0)
  (fun _ ih t => Nat.rec (motive := fun _ => Nat) 0 (fun t' _ => Nat.add (ih (A (Nat.succ t'))) 1) t) n t
def oe_na (C N Z : Nat → Nat) (n c r : Nat) : Nat := Nat.rec (motive := fun _ => Nat → Nat → Nat) (fun c _ => c)
  (fun _ ih c r => Nat.rec (motive := fun _ => Nat) 0 (fun c' _ => Nat.rec (motive := fun _ => Nat) (Nat.succ c')
    (fun r' _ => cond (Nat.ble (Nat.add r' 2) (Z (Nat.succ c'))) (ih (C (Nat.succ c')) r') (ih (N (Nat.succ c')) (Nat.sub (Nat.succ r') (Z (Nat.succ c'))))) r) c) n c r
def oe_po (A B Z : Nat → Nat) (n t q : Nat) : Nat := Nat.rec (motive := fun _ => Nat → Nat → Nat) (fun _ q => q)
  (fun _ ih t q => Nat.rec (motive := fun _ => Nat) q (fun t' _ => Nat.rec (motive := fun _ => Nat)
    (Nat.rec (motive := fun _ => Nat) (ih 0 q) (fun a' _ => ih (Nat.succ a') (Nat.add q 1)) (A (Nat.succ t')))
    (fun b' _ => ih (Nat.succ b') (Nat.add q (Z (Nat.succ b')))) (B (Nat.succ t'))) t) n t q
def oe_ib (A : Nat → Nat) (x n t : Nat) : Bool := Nat.rec (motive := fun _ => Nat → Bool) (fun _ => false)
  (fun _ ih t => Nat.rec (motive := fun _ => Bool) false (fun t' _ => cond (Nat.beq (Nat.succ t') x) true (ih (A (Nat.succ t')))) t) n t
def oe_lc (N : Nat → Nat) (n c l : Nat) : Nat := Nat.rec (motive := fun _ => Nat → Nat → Nat) (fun _ l => l)
  (fun _ ih c l => Nat.rec (motive := fun _ => Nat) l (fun c' _ => ih (N (Nat.succ c')) (Nat.succ c')) c) n c l
def oe_bl (A N : Nat → Nat) (n t : Nat) : Nat := Nat.rec (motive := fun _ => Nat → Nat) (fun t => t)
  (fun _ ih t => Nat.rec (motive := fun _ => Nat) 0 (fun t' _ => Nat.rec (motive := fun _ => Nat) (ih (A (Nat.succ t'))) (fun _ _ => Nat.succ t') (N (Nat.succ t'))) t) n t
def oe_bh (A C N : Nat → Nat) (x : Nat) : Nat := Nat.rec (motive := fun _ => Nat)
  (Nat.rec (motive := fun _ => Nat) 0 (fun t' _ => N (Nat.succ t')) (oe_bl A N 40 x)) (fun c' _ => Nat.succ c') (C x)
def oe_dp (A C N : Nat → Nat) (n t d : Nat) : Nat := Nat.rec (motive := fun _ => Nat → Nat → Nat) (fun _ d => d)
  (fun _ ih t d => oe_fn (oe_lv A 40 t) (fun v => oe_fn (cond (Nat.ble v (Nat.add d 1)) d (Nat.sub v 1)) (fun d' => oe_fn (oe_bh A C N t) (fun t' => ih t' d')))) n t d
/-- the row + 1; 0: none -/
def oe_ro (A B F R : Nat → Nat) (n t q : Nat) : Nat := Nat.rec (motive := fun _ => Nat → Nat → Nat) (fun _ q => Nat.add q 1)
  (fun _ ih t q => Nat.rec (motive := fun _ => Nat) (Nat.add q 1) (fun t' _ => Nat.rec (motive := fun _ => Nat)
    (Nat.rec (motive := fun _ => Nat) (ih 0 q) (fun a' _ => Nat.rec (motive := fun _ => Nat) (ih (Nat.succ a') (Nat.add q 1)) (fun _ _ => 0) (F (Nat.succ a'))) (A (Nat.succ t')))
    (fun b' _ => ih (Nat.succ b') (Nat.add q (R (Nat.succ b')))) (B (Nat.succ t'))) t) n t q
/-- what reveal unfolds, as a packed array -/
def oe_ms (A : Nat → Nat) (n t M : Nat) : Nat := Nat.rec (motive := fun _ => Nat → Nat → Nat) (fun _ M => M)
  (fun _ ih t M => Nat.rec (motive := fun _ => Nat) M (fun t' _ => oe_fn (oe_wr M (Nat.succ t') 1) (fun M' => ih (A (Nat.succ t')) M')) t) n t M
/-- the way of rowOf meets unfolded nodes alone -/
def oe_ck (A B M : Nat → Nat) (n t : Nat) : Bool := Nat.rec (motive := fun _ => Nat → Bool) (fun _ => true)
  (fun _ ih t => Nat.rec (motive := fun _ => Bool) true (fun t' _ => Nat.rec (motive := fun _ => Bool)
    (Nat.rec (motive := fun _ => Bool) (ih 0) (fun a' _ => Nat.rec (motive := fun _ => Bool) false (fun _ _ => ih (Nat.succ a')) (M (Nat.succ a'))) (A (Nat.succ t')))
    (fun b' _ => ih (Nat.succ b')) (B (Nat.succ t'))) t) n t
def oe_cm (A : Nat → Nat) (n p : Nat) : Nat := Nat.rec (motive := fun _ => Nat → Nat) (fun p => p) (fun _ ih p => ih (A p)) n p
def oe_ow (x : Nat) : Nat := Nat.rec (motive := fun _ => Nat) 0 (fun _ _ => 1) x
/-- size of x, told by its children -/
def oe_vz (C N Z : Nat → Nat) (x : Nat) : Nat := Nat.add (oe_ow x) (oe_sm N Z 40 (C x))
/-- rows of x, told by its children -/
def oe_vw (C N F R : Nat → Nat) (x : Nat) : Nat := Nat.add (oe_ow x) (Nat.rec (motive := fun _ => Nat) (oe_sm N R 40 (C x)) (fun _ _ => 0) (F x))
/-- pullUp over the sizes -/
def oe_pz (A C N : Nat → Nat) (k : Nat → Bool) (n t Z : Nat) : Bool := Nat.rec (motive := fun _ => Nat → Nat → Bool)
  (fun _ Z => oe_gd (oe_vz C N (oe_rd Z) 0) (fun v => oe_fc (oe_wr Z 0 v) k))
  (fun _ ih t Z => Nat.rec (motive := fun _ => Bool) (oe_gd (oe_vz C N (oe_rd Z) 0) (fun v => oe_fc (oe_wr Z 0 v) k))
    (fun t' _ => oe_gd (oe_vz C N (oe_rd Z) (Nat.succ t')) (fun v => oe_fc (oe_wr Z (Nat.succ t') v) (fun Z' => ih (A (Nat.succ t')) Z'))) t) n t Z
/-- pullUp over the rows -/
def oe_pr (A C N F : Nat → Nat) (k : Nat → Bool) (n t R : Nat) : Bool := Nat.rec (motive := fun _ => Nat → Nat → Bool)
  (fun _ R => oe_gd (oe_vw C N F (oe_rd R) 0) (fun v => oe_fc (oe_wr R 0 v) k))
  (fun _ ih t R => Nat.rec (motive := fun _ => Bool) (oe_gd (oe_vw C N F (oe_rd R) 0) (fun v => oe_fc (oe_wr R 0 v) k))
    (fun t' _ => oe_gd (oe_vw C N F (oe_rd R) (Nat.succ t')) (fun v => oe_fc (oe_wr R (Nat.succ t') v) (fun R' => ih (A (Nat.succ t')) R'))) t) n t R
def oe_u2 (A C N B Z x p b : Nat) (k : Nat → Nat → Nat → Nat → Bool) : Bool :=
  oe_fc (Nat.rec (motive := fun _ => Nat) B (fun h' _ => oe_wr B (Nat.succ h') b) (oe_rd N x)) (fun B1 => oe_pz (oe_rd A) (oe_rd C) (oe_rd N) (fun Z' => k C N B1 Z') 40 p Z)
def oe_ul (A C N B Z x : Nat) (k : Nat → Nat → Nat → Nat → Bool) : Bool :=
  oe_fc (oe_rd A x) (fun p => oe_fc (oe_rd N x) (fun h => Nat.rec (motive := fun _ => Bool)
    (oe_fc (oe_wr C p h) (fun C1 => oe_u2 A C1 N B Z x p 0 k))
    (fun b' _ => oe_fc (oe_wr N (Nat.succ b') h) (fun N1 => oe_u2 A C N1 B Z x p (Nat.succ b') k)) (oe_rd B x)))
def oe_lk (A C N B Z x p s : Nat) (k : Nat → Nat → Nat → Nat → Nat → Bool) : Bool :=
  oe_fc (oe_wr A x p) (fun A1 => oe_fc (Nat.rec (motive := fun _ => Nat) (oe_rd C p) (fun s' _ => oe_rd N (Nat.succ s')) s) (fun h =>
  oe_fc (oe_wr N x h) (fun N1 => oe_fc (oe_wr B x s) (fun B1 => oe_fc (Nat.rec (motive := fun _ => Nat) B1 (fun h' _ => oe_wr B1 (Nat.succ h') x) h) (fun B2 =>
  Nat.rec (motive := fun _ => Bool)
    (oe_fc (oe_wr C p x) (fun C1 => oe_pz (oe_rd A1) (oe_rd C1) (oe_rd N1) (fun Z' => k A1 C1 N1 B2 Z') 40 p Z))
    (fun s' _ => oe_fc (oe_wr N1 (Nat.succ s') x) (fun N2 => oe_pz (oe_rd A1) (oe_rd C) (oe_rd N2) (fun Z' => k A1 C N2 B2 Z') 40 p Z)) s)))))
def oe_ad (m A C N B Z l : Nat) (k : Nat → Nat → Nat → Nat → Nat → Bool) : Bool :=
  oe_an (Nat.beq (oe_rd Z 0) m) (oe_fc (Nat.rec (motive := fun _ => Nat) 0 (fun m' _ => oe_na (oe_rd C) (oe_rd N) (oe_rd Z) 80 (oe_rd C 0) m') m) (fun p0 =>
  oe_fc (oe_lv (oe_rd A) 40 p0) (fun c => oe_an (Nat.ble l c) (oe_fc (oe_cm (oe_rd A) (Nat.sub c l) p0) (fun p =>
  oe_fc (oe_wr C (Nat.succ m) 0) (fun C1 => oe_fc (oe_wr Z (Nat.succ m) 1) (fun Z1 => oe_fc (oe_lc (oe_rd N) 40 (oe_rd C1 p) 0) (fun s =>
  oe_lk A C1 N B Z1 (Nat.succ m) p s k))))))))
def oe_rv (A C N B Z i : Nat) : Bool :=
  oe_fc (oe_na (oe_rd C) (oe_rd N) (oe_rd Z) 80 (oe_rd C 0) i) (fun x => oe_an (oe_pz (oe_rd A) (oe_rd C) (oe_rd N) (fun Z' => Nat.beq Z' Z) 40 x Z)
    (oe_fc (oe_ms (oe_rd A) 40 (oe_rd A x) 0) (fun M => oe_ck (oe_rd A) (oe_rd B) (oe_rd M) 80 x)))
/-! the law's own functions; levels: three bits a cell -/
def oe_at (L k : Nat) : Nat := Nat.land (Nat.shiftRight L (Nat.mul 3 k)) 7
def oe_ed (L i n e : Nat) : Nat := Nat.rec (motive := fun _ => Nat → Nat) (fun e => e)
  (fun j ih e => oe_fn (cond (Nat.ble (Nat.succ j) i) e (cond (Nat.ble (oe_at L (Nat.succ j)) (oe_at L i)) (Nat.succ j) e)) ih) n e
/-- the parent's place + 1; 0: none -/
def oe_pa (L Z i n a q : Nat) : Nat := Nat.rec (motive := fun _ => Nat → Nat → Nat) (fun _ q => q)
  (fun _ ih a q => oe_fn (cond (Nat.ble i a) q (cond (Nat.ble (Nat.add (oe_rd Z (Nat.succ a)) a) i) q (cond (Nat.ble (oe_at L i) (oe_at L a)) q (Nat.succ a)))) (fun q' => ih (Nat.succ a) q')) n a q
/-! what is checked of a tree of eight headings -/
def oe_l1 (L A C N B Z k : Nat) : Bool :=
  oe_an (Nat.beq (oe_na (oe_rd C) (oe_rd N) (oe_rd Z) 80 (oe_rd C 0) k) (Nat.succ k)) (oe_an (Nat.beq (oe_po (oe_rd A) (oe_rd B) (oe_rd Z) 80 (Nat.succ k) 0) k)
  (oe_an (Nat.beq (Nat.add (oe_rd Z (Nat.succ k)) k) (oe_ed L k 7 8)) (oe_an (Nat.beq (oe_lv (oe_rd A) 40 (Nat.succ k)) (Nat.add (oe_at L k) 1))
  (oe_an (Nat.beq (oe_rd A (Nat.succ k)) (oe_pa L Z k 8 0 0)) (oe_rv A C N B Z k)))))
/-- the row + 1 that the law asks for; 0: none -/
def oe_rw1 (f i z : Nat) : Nat := cond (Nat.ble i f) (Nat.succ i) (cond (Nat.ble (Nat.add f z) i) (Nat.sub (Nat.add i 2) z) 0)
def oe_l2 (A C N B Z f : Nat) : Bool :=
  oe_an (oe_pz (oe_rd A) (oe_rd C) (oe_rd N) (fun Z' => Nat.beq Z' Z) 40 (Nat.succ f) Z) (oe_fc (oe_wr 0 (Nat.succ f) 1) (fun F => oe_fc (oe_rd Z (Nat.succ f)) (fun z =>
  oe_pr (oe_rd A) (oe_rd C) (oe_rd N) (oe_rd F) (fun R => oe_an (Nat.beq (Nat.add (oe_rd R 0) z) 9)
    (oe_al (fun i => Nat.beq (oe_ro (oe_rd A) (oe_rd B) (oe_rd F) (oe_rd R) 80 (Nat.succ i) 0) (oe_rw1 f i z)) 8)) 40 (Nat.succ f) Z)))
def oe_l5 (L i j z e A C N B Z : Nat) : Bool :=
  oe_fc (cond (Nat.ble e i) e (Nat.sub e z)) (fun u => oe_an (cond (Nat.ble e i) true (Nat.ble z e)) (oe_an (Nat.beq (oe_po (oe_rd A) (oe_rd B) (oe_rd Z) 80 (Nat.succ i) 0) u) (oe_an (Nat.beq (oe_rd Z 0) 8)
  (oe_an (Nat.beq (oe_na (oe_rd C) (oe_rd N) (oe_rd Z) 80 (oe_rd C 0) u) (Nat.succ i)) (oe_an (Nat.beq (oe_lv (oe_rd A) 40 (Nat.succ i)) (Nat.add (oe_at L j) 2))
  (oe_an (Nat.beq (oe_na (oe_rd C) (oe_rd N) (oe_rd Z) 80 (oe_rd C 0) (Nat.sub (Nat.add u z) 1)) (Nat.add i z)) (oe_rv A C N B Z i)))))))
def oe_l4 (L A C N B Z z d i Z0 j : Nat) : Bool :=
  cond (oe_an (Nat.ble i j) (Nat.ble (Nat.succ j) (Nat.add i z))) (oe_ib (oe_rd A) (Nat.succ i) 40 (Nat.succ j))
    (oe_an (cond (oe_ib (oe_rd A) (Nat.succ i) 40 (Nat.succ j)) false true) (oe_an (Nat.ble (Nat.add (Nat.add d (oe_at L j)) 1) (Nat.add 7 (oe_at L i)))
    (oe_fc (Nat.add (oe_rd Z0 (Nat.succ j)) j) (fun e => oe_fc (oe_lc (oe_rd N) 40 (oe_rd C (Nat.succ j)) 0) (fun s =>
      oe_lk A C N B Z (Nat.succ i) (Nat.succ j) s (fun A2 C2 N2 B2 Z2 => oe_l5 L i j z e A2 C2 N2 B2 Z2))))))
def oe_l3 (L A C N B Z i : Nat) : Bool :=
  oe_fc (oe_rd Z (Nat.succ i)) (fun z => oe_fc (oe_dp (oe_rd A) (oe_rd C) (oe_rd N) z (Nat.succ i) 0) (fun d =>
    oe_an (oe_al (fun a => cond (oe_an (Nat.ble i a) (Nat.ble (Nat.succ a) (Nat.add i z))) (Nat.ble (oe_at L a) d) true) 8)
    (oe_ul A C N B Z (Nat.succ i) (fun C1 N1 B1 Z1 => oe_al (fun j => oe_l4 L A C1 N1 B1 Z1 z d i Z j) 8))))
def oe_lf (q m L A C N B Z : Nat) : Bool :=
  oe_an (Nat.beq (oe_rd Z 0) 8) (oe_an (oe_al (oe_l1 L A C N B Z) 8) (oe_an (oe_al (oe_l2 A C N B Z) 8) (oe_al (oe_l3 L A C N B Z) 8)))
/-- all the trees that come out of n more headings, of levels up to q, l + 1, .. -/
def oe_gw (T : Nat → Nat → Nat → Nat → Nat → Nat → Nat → Nat → Bool) (n q m L A C N B Z : Nat) : Bool :=
  Nat.rec (motive := fun _ => Nat → Nat → Nat → Nat → Nat → Nat → Nat → Nat → Bool) T
    (fun _ ih q m L A C N B Z => oe_al (fun l => oe_ad m A C N B Z l (fun A' C' N' B' Z' => oe_fc (Nat.lor L (Nat.shiftLeft l (Nat.mul 3 m))) (fun L' => ih (Nat.succ l) (Nat.succ m) L' A' C' N' B' Z'))) (Nat.succ q)) n q m L A C N B Z
end
end
section
/-! The computation: every tree of eight headings passes oe_lf. Written by gen02.py: a row for each tree of the first 5 headings. -/
theorem oe_c0 : oe_gw oe_lf 3 1 5 0 0 1 344864 4399360 1118485 = true := by decide +kernel
theorem oe_c1 : oe_gw oe_lf 3 2 5 4096 4194304 327681 17184 205056 1184021 = true := by decide +kernel
theorem oe_c2 : oe_gw oe_lf 3 1 5 512 196608 16385 21280 3154176 1122581 = true := by decide +kernel
theorem oe_c3 : oe_gw oe_lf 3 2 5 4608 3342336 16385 328480 4202752 1126677 = true := by decide +kernel
theorem oe_c4 : oe_gw oe_lf 3 3 5 8704 4390912 344065 800 8448 1192213 = true := by decide +kernel
theorem oe_c5 : oe_gw oe_lf 3 1 5 64 8192 769 328736 4325632 1118741 = true := by decide +kernel
theorem oe_c6 : oe_gw oe_lf 3 2 5 4160 4202496 328449 1056 131328 1184277 = true := by decide +kernel
theorem oe_c7 : oe_gw oe_lf 3 1 5 576 139264 769 17696 2294016 1118997 = true := by decide +kernel
theorem oe_c8 : oe_gw oe_lf 3 2 5 4672 2236416 769 344096 4391168 1119253 = true := by decide +kernel
theorem oe_c9 : oe_gw oe_lf 3 3 5 8768 4333568 328449 16416 196864 1184789 = true := by decide +kernel
theorem oe_c10 : oe_gw oe_lf 3 1 5 1088 204800 17153 1312 2097408 1123093 = true := by decide +kernel
theorem oe_c11 : oe_gw oe_lf 3 2 5 5184 2301952 17153 20512 3145984 1123349 = true := by decide +kernel
theorem oe_c12 : oe_gw oe_lf 3 3 5 9280 3350528 17153 327712 4194560 1127445 = true := by decide +kernel
theorem oe_c13 : oe_gw oe_lf 3 4 5 13376 4399104 344833 32 256 1192981 = true := by decide +kernel
theorem oe_c14 : oe_gw oe_lf 3 1 5 8 256 33 344112 4395008 1118501 = true := by decide +kernel
theorem oe_c15 : oe_gw oe_lf 3 2 5 4104 4194560 327713 16432 200704 1184037 = true := by decide +kernel
theorem oe_c16 : oe_gw oe_lf 3 1 5 520 196864 16417 20528 3149824 1122597 = true := by decide +kernel
theorem oe_c17 : oe_gw oe_lf 3 2 5 4616 3342592 16417 327728 4198400 1126693 = true := by decide +kernel
theorem oe_c18 : oe_gw oe_lf 3 3 5 8712 4391168 344097 48 4096 1192229 = true := by decide +kernel
theorem oe_c19 : oe_gw oe_lf 3 1 5 72 4352 33 328512 4268032 1118517 = true := by decide +kernel
theorem oe_c20 : oe_gw oe_lf 3 2 5 4168 4198656 327713 832 73728 1184053 = true := by decide +kernel
theorem oe_c21 : oe_gw oe_lf 3 1 5 584 69888 33 17232 1253376 1118533 = true := by decide +kernel
theorem oe_c22 : oe_gw oe_lf 3 2 5 4680 1118464 33 344832 4399104 1118549 = true := by decide +kernel
theorem oe_c23 : oe_gw oe_lf 3 3 5 8776 4264192 327713 17152 204800 1184085 = true := by decide +kernel
theorem oe_c24 : oe_gw oe_lf 3 1 5 1096 200960 16417 848 1056768 1122629 = true := by decide +kernel
theorem oe_c25 : oe_gw oe_lf 3 2 5 5192 1249536 16417 21248 3153920 1122645 = true := by decide +kernel
theorem oe_c26 : oe_gw oe_lf 3 3 5 9288 3346688 16417 328448 4202496 1126741 = true := by decide +kernel
theorem oe_c27 : oe_gw oe_lf 3 4 5 13384 4395264 344097 768 8192 1192277 = true := by decide +kernel
theorem oe_c28 : oe_gw oe_lf 3 1 5 136 8448 801 327744 4259840 1118773 = true := by decide +kernel
theorem oe_c29 : oe_gw oe_lf 3 2 5 4232 4202752 328481 64 65536 1184309 = true := by decide +kernel
theorem oe_c30 : oe_gw oe_lf 3 1 5 648 73984 801 1104 1179648 1118789 = true := by decide +kernel
theorem oe_c31 : oe_gw oe_lf 3 2 5 4744 1122560 801 328704 4325376 1118805 = true := by decide +kernel
theorem oe_c32 : oe_gw oe_lf 3 3 5 8840 4268288 328481 1024 131072 1184341 = true := by decide +kernel
theorem oe_c33 : oe_gw oe_lf 3 1 5 1160 139520 801 16464 1245184 1119045 = true := by decide +kernel
theorem oe_c34 : oe_gw oe_lf 3 2 5 5256 1188096 801 17664 2293760 1119061 = true := by decide +kernel
theorem oe_c35 : oe_gw oe_lf 3 3 5 9352 2236672 801 344064 4390912 1119317 = true := by decide +kernel
theorem oe_c36 : oe_gw oe_lf 3 4 5 13448 4333824 328481 16384 196608 1184853 = true := by decide +kernel
theorem oe_c37 : oe_gw oe_lf 3 1 5 1672 205056 17185 80 1048576 1123141 = true := by decide +kernel
theorem oe_c38 : oe_gw oe_lf 3 2 5 5768 1253632 17185 1280 2097152 1123157 = true := by decide +kernel
theorem oe_c39 : oe_gw oe_lf 3 3 5 9864 2302208 17185 20480 3145728 1123413 = true := by decide +kernel
theorem oe_c40 : oe_gw oe_lf 3 4 5 13960 3350784 17185 327680 4194304 1127509 = true := by decide +kernel
theorem oe_c41 : oe_gw oe_lf 3 5 5 18056 4399360 344865 0 0 1193045 = true := by decide +kernel
end
section
/-! Pure lemmas over the picture. -/
theorem oe_cl {α : Type} (a b : Nat) (x y : α) : cond (Nat.ble a b) x y = if a ≤ b then x else y := by
  by_cases h : a ≤ b
  · rw [if_pos h, Nat.ble_eq_true_of_le h]; rfl
  · rw [if_neg h]
    cases e : Nat.ble a b with
    | true => exact absurd (Nat.le_of_ble_eq_true e) h
    | false => rfl
theorem oe_cb {α : Type} (a b : Nat) (x y : α) : cond (Nat.beq a b) x y = if a = b then x else y := by
  by_cases h : a = b
  · rw [if_pos h, h]
    have : Nat.beq b b = true := Nat.beq_refl b
    rw [this]; rfl
  · rw [if_neg h]
    cases e : Nat.beq a b with
    | true => exact absurd (Nat.eq_of_beq_eq_true e) h
    | false => rfl
theorem oe_fcE (n : Nat) (k : Nat → Bool) : oe_fc n k = k n := by cases n <;> rfl
theorem oe_fnE (n : Nat) (k : Nat → Nat) : oe_fn n k = k n := by cases n <;> rfl
theorem oe_anE {a b : Bool} (h : oe_an a b = true) : a = true ∧ b = true := by
  cases a with
  | true => exact ⟨rfl, h⟩
  | false => exact absurd (show false = true from h) (by decide)
theorem oe_gdE {v : Nat} {k : Nat → Bool} (h : oe_gd v k = true) : v < 16 ∧ k v = true := by
  unfold oe_gd at h
  rw [oe_fcE, oe_cl] at h
  by_cases e : v ≤ 15
  · rw [if_pos e] at h
    exact ⟨by omega, h⟩
  · rw [if_neg e] at h
    exact absurd h (by decide)
theorem oe_alE {p : Nat → Bool} : ∀ {n : Nat}, oe_al p n = true → ∀ k, k < n → p k = true := by
  intro n
  induction n with
  | zero => intro _ k hk; exact absurd hk (by omega)
  | succ n ih =>
    intro h k hk
    have h' : cond (p n) (oe_al p n) false = true := h
    cases e : p n with
    | true =>
      rw [e] at h'
      by_cases ek : k = n
      · rw [ek]; exact e
      · exact ih h' k (by omega)
    | false => rw [e] at h'; exact absurd (show false = true from h') (by decide)
theorem oe_bq {a b : Nat} (h : Nat.beq a b = true) : a = b := Nat.eq_of_beq_eq_true h
theorem oe_bl' {a b : Nat} (h : Nat.ble a b = true) : a ≤ b := Nat.le_of_ble_eq_true h
/-! packed arrays -/
theorem oe_rd_lt (P k : Nat) : oe_rd P k < 16 := Nat.and_lt_two_pow (P >>> (4 * k)) (n := 4) (by decide)
theorem oe_rd_tb (P k b : Nat) : (oe_rd P k).testBit b = (decide (b < 4) && P.testBit (4 * k + b)) := by
  show ((P >>> (4 * k)) &&& (2 ^ 4 - 1)).testBit b = _
  rw [Nat.testBit_and, Nat.testBit_shiftRight, Nat.testBit_two_pow_sub_one, Bool.and_comm]
theorem oe_wr_tb (P k v b : Nat) : (oe_wr P k v).testBit b = (P.testBit b ^^ (decide (4 * k ≤ b) && ((oe_rd P k).testBit (b - 4 * k) ^^ v.testBit (b - 4 * k)))) := by
  show (P ^^^ ((oe_rd P k ^^^ v) <<< (4 * k))).testBit b = _
  rw [Nat.testBit_xor, Nat.testBit_shiftLeft, Nat.testBit_xor]
def oe_up (R : Nat → Nat) (x v : Nat) : Nat → Nat := fun j => if j = x then v else R j
theorem oe_up_s (R : Nat → Nat) (x v : Nat) : oe_up R x v x = v := if_pos rfl
theorem oe_up_n (R : Nat → Nat) {x v j : Nat} (h : j ≠ x) : oe_up R x v j = R j := if_neg h
theorem oe_rw (P k : Nat) {v : Nat} (hv : v < 16) : oe_rd (oe_wr P k v) = oe_up (oe_rd P) k v := by
  funext j
  apply Nat.eq_of_testBit_eq
  intro b
  rw [oe_rd_tb, oe_wr_tb]
  unfold oe_up
  by_cases hb : b < 4
  · by_cases hj : j = k
    · subst hj
      rw [if_pos rfl, show 4 * j + b - 4 * j = b by omega, oe_rd_tb P j]
      simp [hb]
    · rw [if_neg hj, oe_rd_tb P j]
      by_cases hk : 4 * k ≤ 4 * j + b
      · have h4 : 4 ≤ 4 * j + b - 4 * k := by omega
        have h1 : v.testBit (4 * j + b - 4 * k) = false := Nat.testBit_lt_two_pow (Nat.lt_of_lt_of_le (show v < 2 ^ 4 by omega) (Nat.pow_le_pow_right (by decide) h4))
        rw [h1, oe_rd_tb P k]
        simp [show ¬ (4 * j + b - 4 * k < 4) by omega]
      · simp [hk]
  · simp only [hb, decide_false, Bool.false_and]
    by_cases hj : j = k
    · rw [if_pos hj]
      exact (Nat.testBit_lt_two_pow (Nat.lt_of_lt_of_le (show v < 2 ^ 4 by omega) (Nat.pow_le_pow_right (by decide) (by omega)))).symm
    · rw [if_neg hj, oe_rd_tb]
      simp [hb]
theorem oe_rd0 (k : Nat) : oe_rd 0 k = 0 := by
  apply Nat.eq_of_testBit_eq
  intro b
  rw [oe_rd_tb]
  simp
/-! the loops, a row each -/
section
variable {A B C N Z R F M : Nat → Nat} {n t c r q x l d : Nat}
theorem oe_sm_z : oe_sm N Z n 0 = 0 := by cases n <;> rfl
theorem oe_sm_0 : oe_sm N Z 0 c = 0 := rfl
theorem oe_sm_s (h : c ≠ 0) : oe_sm N Z (n + 1) c = Z c + oe_sm N Z n (N c) := by
  cases c with
  | zero => exact absurd rfl h
  | succ c => rfl
theorem oe_lv_z : oe_lv A n 0 = 0 := by cases n <;> rfl
theorem oe_lv_s (h : t ≠ 0) : oe_lv A (n + 1) t = oe_lv A n (A t) + 1 := by
  cases t with
  | zero => exact absurd rfl h
  | succ t => rfl
theorem oe_na_z : oe_na C N Z n 0 r = 0 := by cases n <;> rfl
theorem oe_na_r (h : c ≠ 0) : oe_na C N Z n c 0 = c := by
  cases c with
  | zero => exact absurd rfl h
  | succ c => cases n <;> rfl
theorem oe_na_s (h : c ≠ 0) (hr : r ≠ 0) : oe_na C N Z (n + 1) c r = if r < Z c then oe_na C N Z n (C c) (r - 1) else oe_na C N Z n (N c) (r - Z c) := by
  cases c with
  | zero => exact absurd rfl h
  | succ c =>
    cases r with
    | zero => exact absurd rfl hr
    | succ r =>
      show cond (Nat.ble (r + 2) (Z (c + 1))) (oe_na C N Z n (C (c + 1)) r) (oe_na C N Z n (N (c + 1)) (r + 1 - Z (c + 1))) = _
      rw [oe_cl]
      rfl
theorem oe_po_z : oe_po A B Z n 0 q = q := by cases n <;> rfl
theorem oe_po_b (h : t ≠ 0) (hb : B t ≠ 0) : oe_po A B Z (n + 1) t q = oe_po A B Z n (B t) (q + Z (B t)) := by
  cases t with
  | zero => exact absurd rfl h
  | succ t =>
    show Nat.rec (motive := fun _ => Nat) _ (fun b' _ => oe_po A B Z n (Nat.succ b') (Nat.add q (Z (Nat.succ b')))) (B (t + 1)) = _
    generalize B (t + 1) = b at hb ⊢
    cases b with
    | zero => exact absurd rfl hb
    | succ b => rfl
theorem oe_po_a (h : t ≠ 0) (hb : B t = 0) : oe_po A B Z (n + 1) t q = if A t = 0 then oe_po A B Z n 0 q else oe_po A B Z n (A t) (q + 1) := by
  cases t with
  | zero => exact absurd rfl h
  | succ t =>
    show Nat.rec (motive := fun _ => Nat) (Nat.rec (motive := fun _ => Nat) (oe_po A B Z n 0 q) (fun a' _ => oe_po A B Z n (Nat.succ a') (Nat.add q 1)) (A (t + 1))) _ (B (t + 1)) = _
    rw [hb]
    show Nat.rec (motive := fun _ => Nat) (oe_po A B Z n 0 q) (fun a' _ => oe_po A B Z n (Nat.succ a') (Nat.add q 1)) (A (t + 1)) = _
    generalize A (t + 1) = a
    cases a with
    | zero => rfl
    | succ a => rfl
theorem oe_ib_z : oe_ib A x n 0 = false := by cases n <;> rfl
theorem oe_ib_s (h : t ≠ 0) : oe_ib A x (n + 1) t = if t = x then true else oe_ib A x n (A t) := by
  cases t with
  | zero => exact absurd rfl h
  | succ t => exact oe_cb (t + 1) x true (oe_ib A x n (A (t + 1)))
theorem oe_lc_z : oe_lc N n 0 l = l := by cases n <;> rfl
theorem oe_lc_s (h : c ≠ 0) : oe_lc N (n + 1) c l = oe_lc N n (N c) c := by
  cases c with
  | zero => exact absurd rfl h
  | succ c => rfl
theorem oe_bl_z : oe_bl A N n 0 = 0 := by cases n <;> rfl
theorem oe_bl_s (h : t ≠ 0) : oe_bl A N (n + 1) t = if N t = 0 then oe_bl A N n (A t) else t := by
  cases t with
  | zero => exact absurd rfl h
  | succ t =>
    show Nat.rec (motive := fun _ => Nat) (oe_bl A N n (A (t + 1))) (fun _ _ => t + 1) (N (t + 1)) = _
    generalize N (t + 1) = a
    cases a with
    | zero => rfl
    | succ a => rfl
theorem oe_bh_c (h : C x ≠ 0) : oe_bh A C N x = C x := by
  unfold oe_bh
  generalize C x = a at h ⊢
  cases a with
  | zero => exact absurd rfl h
  | succ a => rfl
theorem oe_bh_l (h : C x = 0) : oe_bh A C N x = if oe_bl A N 40 x = 0 then 0 else N (oe_bl A N 40 x) := by
  unfold oe_bh
  rw [h]
  show Nat.rec (motive := fun _ => Nat) 0 (fun t' _ => N (Nat.succ t')) (oe_bl A N 40 x) = _
  generalize oe_bl A N 40 x = a
  cases a with
  | zero => rfl
  | succ a => rfl
theorem oe_dp_s : oe_dp A C N (n + 1) t d = oe_dp A C N n (oe_bh A C N t) (if oe_lv A 40 t ≤ d + 1 then d else oe_lv A 40 t - 1) := by
  show oe_fn (oe_lv A 40 t) (fun v => oe_fn (cond (Nat.ble v (Nat.add d 1)) d (Nat.sub v 1)) (fun d' => oe_fn (oe_bh A C N t) (fun t' => oe_dp A C N n t' d'))) = _
  rw [oe_fnE, oe_fnE, oe_fnE, oe_cl]
  rfl
theorem oe_ro_z : oe_ro A B F R n 0 q = q + 1 := by cases n <;> rfl
theorem oe_ro_0 : oe_ro A B F R 0 t q = q + 1 := rfl
theorem oe_ro_b (h : t ≠ 0) (hb : B t ≠ 0) : oe_ro A B F R (n + 1) t q = oe_ro A B F R n (B t) (q + R (B t)) := by
  cases t with
  | zero => exact absurd rfl h
  | succ t =>
    show Nat.rec (motive := fun _ => Nat) _ (fun b' _ => oe_ro A B F R n (Nat.succ b') (Nat.add q (R (Nat.succ b')))) (B (t + 1)) = _
    generalize B (t + 1) = b at hb ⊢
    cases b with
    | zero => exact absurd rfl hb
    | succ b => rfl
theorem oe_ro_a (h : t ≠ 0) (hb : B t = 0) : oe_ro A B F R (n + 1) t q = if A t = 0 then oe_ro A B F R n 0 q else if F (A t) = 0 then oe_ro A B F R n (A t) (q + 1) else 0 := by
  cases t with
  | zero => exact absurd rfl h
  | succ t =>
    show Nat.rec (motive := fun _ => Nat) (Nat.rec (motive := fun _ => Nat) (oe_ro A B F R n 0 q) (fun a' _ => Nat.rec (motive := fun _ => Nat) (oe_ro A B F R n (Nat.succ a') (Nat.add q 1)) (fun _ _ => 0) (F (Nat.succ a'))) (A (t + 1))) _ (B (t + 1)) = _
    rw [hb]
    show Nat.rec (motive := fun _ => Nat) (oe_ro A B F R n 0 q) (fun a' _ => Nat.rec (motive := fun _ => Nat) (oe_ro A B F R n (Nat.succ a') (Nat.add q 1)) (fun _ _ => 0) (F (Nat.succ a'))) (A (t + 1)) = _
    generalize A (t + 1) = a
    cases a with
    | zero => rfl
    | succ a =>
      show Nat.rec (motive := fun _ => Nat) (oe_ro A B F R n (Nat.succ a) (Nat.add q 1)) (fun _ _ => 0) (F (a + 1)) = if a + 1 = 0 then _ else _
      rw [if_neg (by omega)]
      generalize F (a + 1) = f
      cases f with
      | zero => rfl
      | succ f => rfl
theorem oe_ms_z {m : Nat} : oe_ms A n 0 m = m := by cases n <;> rfl
theorem oe_ms_s {m : Nat} (h : t ≠ 0) : oe_ms A (n + 1) t m = oe_ms A n (A t) (oe_wr m t 1) := by
  cases t with
  | zero => exact absurd rfl h
  | succ t =>
    show oe_fn (oe_wr m (t + 1) 1) (fun M' => oe_ms A n (A (t + 1)) M') = _
    rw [oe_fnE]
theorem oe_ck_b (h : t ≠ 0) (hb : B t ≠ 0) : oe_ck A B M (n + 1) t = oe_ck A B M n (B t) := by
  cases t with
  | zero => exact absurd rfl h
  | succ t =>
    show Nat.rec (motive := fun _ => Bool) _ (fun b' _ => oe_ck A B M n (Nat.succ b')) (B (t + 1)) = _
    generalize B (t + 1) = b at hb ⊢
    cases b with
    | zero => exact absurd rfl hb
    | succ b => rfl
theorem oe_ck_a (h : t ≠ 0) (hb : B t = 0) : oe_ck A B M (n + 1) t = if A t = 0 then oe_ck A B M n 0 else if M (A t) = 0 then false else oe_ck A B M n (A t) := by
  cases t with
  | zero => exact absurd rfl h
  | succ t =>
    show Nat.rec (motive := fun _ => Bool) (Nat.rec (motive := fun _ => Bool) (oe_ck A B M n 0) (fun a' _ => Nat.rec (motive := fun _ => Bool) false (fun _ _ => oe_ck A B M n (Nat.succ a')) (M (Nat.succ a'))) (A (t + 1))) _ (B (t + 1)) = _
    rw [hb]
    show Nat.rec (motive := fun _ => Bool) (oe_ck A B M n 0) (fun a' _ => Nat.rec (motive := fun _ => Bool) false (fun _ _ => oe_ck A B M n (Nat.succ a')) (M (Nat.succ a'))) (A (t + 1)) = _
    generalize A (t + 1) = a
    cases a with
    | zero => rfl
    | succ a =>
      show Nat.rec (motive := fun _ => Bool) false (fun _ _ => oe_ck A B M n (Nat.succ a)) (M (a + 1)) = if a + 1 = 0 then _ else _
      rw [if_neg (by omega)]
      generalize M (a + 1) = f
      cases f with
      | zero => rfl
      | succ f => rfl
theorem oe_cm_s {p : Nat} : oe_cm A (n + 1) p = oe_cm A n (A p) := rfl
theorem oe_ow_0 : oe_ow 0 = 0 := rfl
theorem oe_ow_s (h : x ≠ 0) : oe_ow x = 1 := by
  cases x with
  | zero => exact absurd rfl h
  | succ x => rfl
theorem oe_vz_E : oe_vz C N Z x = oe_ow x + oe_sm N Z 40 (C x) := rfl
theorem oe_vw_E : oe_vw C N F R x = oe_ow x + if F x = 0 then oe_sm N R 40 (C x) else 0 := by
  unfold oe_vw
  generalize F x = f
  cases f with
  | zero => rfl
  | succ f => rfl
/-! bounds -/
theorem oe_sm_le (hZ : ∀ k, Z k < 16) : ∀ n c, oe_sm N Z n c ≤ 15 * n := by
  intro n
  induction n with
  | zero => intro c; exact Nat.le_refl 0
  | succ n ih =>
    intro c
    by_cases h : c = 0
    · rw [h, oe_sm_z]; omega
    · rw [oe_sm_s h]
      have h1 := hZ c
      have h2 := ih (N c)
      omega
theorem oe_sm_mono (h : ∀ k, R k ≤ Z k) : ∀ n c, oe_sm N R n c ≤ oe_sm N Z n c := by
  intro n
  induction n with
  | zero => intro c; exact Nat.le_refl 0
  | succ n ih =>
    intro c
    by_cases hc : c = 0
    · rw [hc, oe_sm_z, oe_sm_z]; omega
    · rw [oe_sm_s hc, oe_sm_s hc]
      have h1 := h c
      have h2 := ih (N c)
      omega
theorem oe_na_b (hC : ∀ k, C k < 16) (hN : ∀ k, N k < 16) : ∀ n c r, c < 16 → oe_na C N Z n c r < 16 := by
  intro n
  induction n with
  | zero => intro c r h; exact h
  | succ n ih =>
    intro c r h
    by_cases hc : c = 0
    · rw [hc, oe_na_z]; omega
    · by_cases hr : r = 0
      · rw [hr, oe_na_r hc]; exact h
      · rw [oe_na_s hc hr]
        by_cases e : r < Z c
        · rw [if_pos e]; exact ih _ _ (hC c)
        · rw [if_neg e]; exact ih _ _ (hN c)
theorem oe_lc_b (hN : ∀ k, N k < 16) : ∀ n c l, c < 16 → l < 16 → oe_lc N n c l < 16 := by
  intro n
  induction n with
  | zero => intro c l _ h; exact h
  | succ n ih =>
    intro c l h1 h2
    by_cases hc : c = 0
    · rw [hc, oe_lc_z]; exact h2
    · rw [oe_lc_s hc]; exact ih _ _ (hN c) h1
theorem oe_cm_b (hA : ∀ k, A k < 16) : ∀ n p, p < 16 → oe_cm A n p < 16 := by
  intro n
  induction n with
  | zero => intro p h; exact h
  | succ n ih => intro p _; exact ih _ (hA p)
theorem oe_lv_b : ∀ n t, oe_lv A n t ≤ n := by
  intro n
  induction n with
  | zero => intro t; exact Nat.le_refl 0
  | succ n ih =>
    intro t
    by_cases h : t = 0
    · rw [h, oe_lv_z]; omega
    · rw [oe_lv_s h]
      have := ih (A t)
      omega
theorem oe_bl_b (hA : ∀ k, A k < 16) : ∀ n t, t < 16 → oe_bl A N n t < 16 := by
  intro n
  induction n with
  | zero => intro t h; exact h
  | succ n ih =>
    intro t h
    by_cases ht : t = 0
    · rw [ht, oe_bl_z]; omega
    · rw [oe_bl_s ht]
      by_cases e : N t = 0
      · rw [if_pos e]; exact ih _ (hA t)
      · rw [if_neg e]; exact h
theorem oe_bh_b (hC : ∀ k, C k < 16) (hN : ∀ k, N k < 16) : oe_bh A C N x < 16 := by
  by_cases h : C x = 0
  · rw [oe_bh_l h]
    by_cases e : oe_bl A N 40 x = 0
    · rw [if_pos e]; omega
    · rw [if_neg e]; exact hN _
  · rw [oe_bh_c h]; exact hC x
end
end
section
/-! The rows of the computation joined. Written by gen02.py. -/
def oe_tb : List (Nat × Nat × Nat × Nat × Nat × Nat × Nat × Nat) := [
  (1, 5, 0, 0, 1, 344864, 4399360, 1118485),
  (2, 5, 4096, 4194304, 327681, 17184, 205056, 1184021),
  (1, 5, 512, 196608, 16385, 21280, 3154176, 1122581),
  (2, 5, 4608, 3342336, 16385, 328480, 4202752, 1126677),
  (3, 5, 8704, 4390912, 344065, 800, 8448, 1192213),
  (1, 5, 64, 8192, 769, 328736, 4325632, 1118741),
  (2, 5, 4160, 4202496, 328449, 1056, 131328, 1184277),
  (1, 5, 576, 139264, 769, 17696, 2294016, 1118997),
  (2, 5, 4672, 2236416, 769, 344096, 4391168, 1119253),
  (3, 5, 8768, 4333568, 328449, 16416, 196864, 1184789),
  (1, 5, 1088, 204800, 17153, 1312, 2097408, 1123093),
  (2, 5, 5184, 2301952, 17153, 20512, 3145984, 1123349),
  (3, 5, 9280, 3350528, 17153, 327712, 4194560, 1127445),
  (4, 5, 13376, 4399104, 344833, 32, 256, 1192981),
  (1, 5, 8, 256, 33, 344112, 4395008, 1118501),
  (2, 5, 4104, 4194560, 327713, 16432, 200704, 1184037),
  (1, 5, 520, 196864, 16417, 20528, 3149824, 1122597),
  (2, 5, 4616, 3342592, 16417, 327728, 4198400, 1126693),
  (3, 5, 8712, 4391168, 344097, 48, 4096, 1192229),
  (1, 5, 72, 4352, 33, 328512, 4268032, 1118517),
  (2, 5, 4168, 4198656, 327713, 832, 73728, 1184053),
  (1, 5, 584, 69888, 33, 17232, 1253376, 1118533),
  (2, 5, 4680, 1118464, 33, 344832, 4399104, 1118549),
  (3, 5, 8776, 4264192, 327713, 17152, 204800, 1184085),
  (1, 5, 1096, 200960, 16417, 848, 1056768, 1122629),
  (2, 5, 5192, 1249536, 16417, 21248, 3153920, 1122645),
  (3, 5, 9288, 3346688, 16417, 328448, 4202496, 1126741),
  (4, 5, 13384, 4395264, 344097, 768, 8192, 1192277),
  (1, 5, 136, 8448, 801, 327744, 4259840, 1118773),
  (2, 5, 4232, 4202752, 328481, 64, 65536, 1184309),
  (1, 5, 648, 73984, 801, 1104, 1179648, 1118789),
  (2, 5, 4744, 1122560, 801, 328704, 4325376, 1118805),
  (3, 5, 8840, 4268288, 328481, 1024, 131072, 1184341),
  (1, 5, 1160, 139520, 801, 16464, 1245184, 1119045),
  (2, 5, 5256, 1188096, 801, 17664, 2293760, 1119061),
  (3, 5, 9352, 2236672, 801, 344064, 4390912, 1119317),
  (4, 5, 13448, 4333824, 328481, 16384, 196608, 1184853),
  (1, 5, 1672, 205056, 17185, 80, 1048576, 1123141),
  (2, 5, 5768, 1253632, 17185, 1280, 2097152, 1123157),
  (3, 5, 9864, 2302208, 17185, 20480, 3145728, 1123413),
  (4, 5, 13960, 3350784, 17185, 327680, 4194304, 1127509),
  (5, 5, 18056, 4399360, 344865, 0, 0, 1193045)]
def oe_T (q m L A C N B Z : Nat) : Bool := oe_tb.any (fun t => oe_an (Nat.beq t.1 q) (oe_an (Nat.beq t.2.1 m) (oe_an (Nat.beq t.2.2.1 L) (oe_an (Nat.beq t.2.2.2.1 A) (oe_an (Nat.beq t.2.2.2.2.1 C) (oe_an (Nat.beq t.2.2.2.2.2.1 N) (oe_an (Nat.beq t.2.2.2.2.2.2.1 B) (Nat.beq t.2.2.2.2.2.2.2 Z))))))))
theorem oe_top : oe_gw oe_T 5 0 0 0 0 0 0 0 0 = true := by decide +kernel
theorem oe_tbl : ∀ t, t ∈ oe_tb → oe_gw oe_lf 3 t.1 t.2.1 t.2.2.1 t.2.2.2.1 t.2.2.2.2.1 t.2.2.2.2.2.1 t.2.2.2.2.2.2.1 t.2.2.2.2.2.2.2 = true :=
  List.forall_mem_cons.mpr ⟨oe_c0, List.forall_mem_cons.mpr ⟨oe_c1, List.forall_mem_cons.mpr ⟨oe_c2, List.forall_mem_cons.mpr ⟨oe_c3, List.forall_mem_cons.mpr ⟨oe_c4, List.forall_mem_cons.mpr ⟨oe_c5, List.forall_mem_cons.mpr ⟨oe_c6, List.forall_mem_cons.mpr ⟨oe_c7, List.forall_mem_cons.mpr ⟨oe_c8, List.forall_mem_cons.mpr ⟨oe_c9, List.forall_mem_cons.mpr ⟨oe_c10, List.forall_mem_cons.mpr ⟨oe_c11, List.forall_mem_cons.mpr ⟨oe_c12, List.forall_mem_cons.mpr ⟨oe_c13, List.forall_mem_cons.mpr ⟨oe_c14, List.forall_mem_cons.mpr ⟨oe_c15, List.forall_mem_cons.mpr ⟨oe_c16, List.forall_mem_cons.mpr ⟨oe_c17, List.forall_mem_cons.mpr ⟨oe_c18, List.forall_mem_cons.mpr ⟨oe_c19, List.forall_mem_cons.mpr ⟨oe_c20, List.forall_mem_cons.mpr ⟨oe_c21, List.forall_mem_cons.mpr ⟨oe_c22, List.forall_mem_cons.mpr ⟨oe_c23, List.forall_mem_cons.mpr ⟨oe_c24, List.forall_mem_cons.mpr ⟨oe_c25, List.forall_mem_cons.mpr ⟨oe_c26, List.forall_mem_cons.mpr ⟨oe_c27, List.forall_mem_cons.mpr ⟨oe_c28, List.forall_mem_cons.mpr ⟨oe_c29, List.forall_mem_cons.mpr ⟨oe_c30, List.forall_mem_cons.mpr ⟨oe_c31, List.forall_mem_cons.mpr ⟨oe_c32, List.forall_mem_cons.mpr ⟨oe_c33, List.forall_mem_cons.mpr ⟨oe_c34, List.forall_mem_cons.mpr ⟨oe_c35, List.forall_mem_cons.mpr ⟨oe_c36, List.forall_mem_cons.mpr ⟨oe_c37, List.forall_mem_cons.mpr ⟨oe_c38, List.forall_mem_cons.mpr ⟨oe_c39, List.forall_mem_cons.mpr ⟨oe_c40, List.forall_mem_cons.mpr ⟨oe_c41, fun _ h => absurd h List.not_mem_nil⟩⟩⟩⟩⟩⟩⟩⟩⟩⟩⟩⟩⟩⟩⟩⟩⟩⟩⟩⟩⟩⟩⟩⟩⟩⟩⟩⟩⟩⟩⟩⟩⟩⟩⟩⟩⟩⟩⟩⟩⟩⟩
theorem oe_T_ok {q m L A C N B Z : Nat} (h : oe_T q m L A C N B Z = true) : oe_gw oe_lf 3 q m L A C N B Z = true := by
  unfold oe_T at h
  rw [List.any_eq_true] at h
  obtain ⟨t, ht, e⟩ := h
  obtain ⟨e0, e⟩ := oe_anE e
  obtain ⟨e1, e⟩ := oe_anE e
  obtain ⟨e2, e⟩ := oe_anE e
  obtain ⟨e3, e⟩ := oe_anE e
  obtain ⟨e4, e⟩ := oe_anE e
  obtain ⟨e5, e⟩ := oe_anE e
  obtain ⟨e6, e⟩ := oe_anE e
  have r := oe_tbl t ht
  rw [oe_bq e0, oe_bq e1, oe_bq e2, oe_bq e3, oe_bq e4, oe_bq e5, oe_bq e6, oe_bq e] at r
  exact r
end
section
/-! The state against the picture; small rows over Int32. -/
def oe_Ar (a : Nat → Int32) (f : Nat → Nat) : Prop := ∀ k, k < 16 → a k = nI (f k) ∧ f k < 16
theorem oe_g {a : Nat → Int32} {f : Nat → Nat} (h : oe_Ar a f) {c : Nat} (hc : c < 16) : a (nI c).toNatClampNeg = nI (f c) := by
  rw [nI_clamp (by omega)]
  exact (h c hc).1
theorem oe_gb {a : Nat → Int32} {f : Nat → Nat} (h : oe_Ar a f) {c : Nat} (hc : c < 16) : f c < 16 := (h c hc).2
theorem oe_Ar_up {a : Nat → Int32} {f : Nat → Nat} (h : oe_Ar a f) {x v : Nat} (hx : x < 16) (hv : v < 16) : oe_Ar (upd a (nI x).toNatClampNeg (nI v)) (oe_up f x v) := by
  intro k hk
  rw [nI_clamp (by omega)]
  by_cases e : k = x
  · rw [e, pk_us, oe_up_s]
    exact ⟨rfl, hv⟩
  · rw [pk_un e, oe_up_n f e]
    exact h k hk
theorem oe_Ar_wr {a : Nat → Int32} {P : Nat} (h : oe_Ar a (oe_rd P)) {x v : Nat} (hx : x < 16) (hv : v < 16) : oe_Ar (upd a (nI x).toNatClampNeg (nI v)) (oe_rd (oe_wr P x v)) := by
  rw [oe_rw P x hv]
  exact oe_Ar_up h hx hv
theorem oe_Ar_ext {a : Nat → Int32} {f g : Nat → Nat} (h : oe_Ar a f) (e : ∀ k, k < 16 → f k = g k) : oe_Ar a g := by
  intro k hk
  rw [← e k hk]
  exact h k hk
/-- the state against the picture: m headings made, named 0, 1, .. -/
def oe_M (m A C N B Z : Nat) (R F : Nat → Nat) (s : St2) : Prop :=
  s.1 = nI m ∧ (∀ k, k ≤ 40 → s.2.1 k = nI (if 1 ≤ k ∧ k ≤ m then 1 else 0)) ∧ (∀ k, 1 ≤ k → k ≤ m → s.2.2.1 k = nI (k - 1))
  ∧ oe_Ar s.2.2.2.1 F ∧ oe_Ar s.2.2.2.2.1 (oe_rd A) ∧ oe_Ar s.2.2.2.2.2.1 (oe_rd C) ∧ oe_Ar s.2.2.2.2.2.2.1 (oe_rd N) ∧ oe_Ar s.2.2.2.2.2.2.2.1 (oe_rd B)
  ∧ oe_Ar s.2.2.2.2.2.2.2.2.1 (oe_rd Z) ∧ oe_Ar s.2.2.2.2.2.2.2.2.2 R
/-! levels are counted from one: nI c + (-1) -/
theorem oe_m1_le {c d : Nat} (hc : c < 1000) (hd : d < 1000) : nI c + (-1) ≤ nI d ↔ c ≤ d + 1 := by
  cases c with
  | zero =>
    constructor
    · intro _; omega
    · intro _
      have h : nI 0 + (-1) = -1 := by decide
      rw [h, Int32.le_iff_toInt_le, nI_toInt (by omega)]
      have h2 : (-1 : Int32).toInt = -1 := by decide
      rw [h2]
      omega
  | succ c =>
    rw [pk_m1, nI_leI (by omega) (by omega)]
    omega
theorem oe_m1_lt {c d : Nat} (hc : c < 1000) (hd : d < 1000) : nI c + (-1) < nI d ↔ c ≤ d := by
  cases c with
  | zero =>
    constructor
    · intro _; omega
    · intro _
      have h : nI 0 + (-1) = -1 := by decide
      rw [h, Int32.lt_iff_toInt_lt, nI_toInt (by omega)]
      have h2 : (-1 : Int32).toInt = -1 := by decide
      rw [h2]
      omega
  | succ c =>
    rw [pk_m1, nI_ltI (by omega) (by omega)]
    omega
theorem oe_m1_p (c : Nat) : nI c + (-1) + 1 = nI c := by
  rw [Int32.add_assoc]
  have h : (-1 : Int32) + 1 = 0 := by decide
  rw [h, Int32.add_zero]
theorem oe_m1_s (c : Nat) : nI c + (-1) + 1 = nI (c + 1) + (-1) := by
  rw [oe_m1_p, pk_m1]
theorem oe_m1_2 (c : Nat) : nI c + (-1) + 2 = nI (c + 1) := by
  rw [Int32.add_assoc]
  have h : (-1 : Int32) + 2 = 1 := by decide
  rw [h, nI_1]
theorem oe_m1_0 : (-1 : Int32) = nI 0 + (-1) := by decide
/-- a + (b - c) -/
theorem oe_asb {a b c : Nat} (h : c ≤ a + b) : nI a + (nI b - nI c) = nI (a + b - c) := by
  rw [← pk_sub h, ← nI_add]
  rw [Int32.sub_eq_add_neg, Int32.sub_eq_add_neg, Int32.add_assoc]
theorem oe_ne4 {c : Nat} (h : c < 1000) : ¬ nI c < 0 := nI_pos (by omega)
end
section
/-! The walk: methods that only look. -/
section
variable {mk : Int32} {a1 a2 a3 a4 a5 a6 a7 a8 a9 : Nat → Int32} {A B C N Z R F M : Nat → Nat} {post : Int32 → Prop}
theorem oe_w12 (h5 : oe_Ar a5 C) (h6 : oe_Ar a6 N) (h8 : oe_Ar a8 Z) : ∀ n c r i, i + n = 80 → c < 16 → r < 1000 → post (nI (oe_na C N Z n c r)) → wX_nodeAt_12 post mk a1 a2 a3 a4 a5 a6 a7 a8 a9 (n + 1) (nI c) (nI r) (nI i) := by
  intro n
  induction n with
  | zero =>
    intro c r i hi hc hr H
    exact pk_le 80 i (fun _ => H) (fun z => absurd z (by omega))
  | succ n ih =>
    intro c r i hi hc hr H
    have b8 := oe_gb h8 hc
    refine pk_le 80 i (fun z => absurd z (by omega)) (fun _ => pk_lt r 0 (fun z => absurd z (by omega)) (fun _ => pk_eq c 0 (fun z => ?_) (fun z => pk_eq r 0 (fun z2 => ?_) (fun z2 => ⟨pk_in c 41 (by omega), pk_lt r (Z c) (fun z3 => nm_r (sb_m1 (by omega)) ⟨pk_in c 41 (by omega), nm_r (oe_g h5 hc) (nm_r (nI_1 i) (ih _ _ _ (by omega) (oe_gb h5 hc) (by omega) ?_))⟩) (fun z3 => ⟨pk_in c 41 (by omega), nm_r (show nI r - a8 (nI c).toNatClampNeg = nI (r - Z c) by rw [oe_g h8 hc, pk_sub z3]) ⟨pk_in c 41 (by omega), nm_r (oe_g h6 hc) (nm_r (nI_1 i) (ih _ _ _ (by omega) (oe_gb h6 hc) (by omega) ?_))⟩⟩) rfl (oe_g h8 hc)⟩))))
    · rw [z, oe_na_z] at H
      rw [z]
      exact H
    · rw [z2, oe_na_r z] at H
      exact H
    · rw [oe_na_s z z2, if_pos z3] at H
      exact H
    · rw [oe_na_s z z2, if_neg (by omega)] at H
      exact H
theorem oe_w7 (h4 : oe_Ar a4 A) : ∀ n t q i, i + n = 40 → t < 16 → post (nI (q + oe_lv A n t) + (-1)) → wX_levelOf_7 post mk a1 a2 a3 a4 a5 a6 a7 a8 a9 (n + 1) (nI q + (-1)) (nI t) (nI i) := by
  intro n
  induction n with
  | zero =>
    intro t q i hi ht H
    exact pk_le 40 i (fun _ => H) (fun z => absurd z (by omega))
  | succ n ih =>
    intro t q i hi ht H
    refine pk_le 40 i (fun z => absurd z (by omega)) (fun _ => pk_eq t 0 (fun z => ?_) (fun z => nm_r (oe_m1_s q) ⟨pk_in t 41 (by omega), nm_r (oe_g h4 ht) (nm_r (nI_1 i) (ih _ _ _ (by omega) (oe_gb h4 ht) ?_))⟩))
    · rw [z, oe_lv_z] at H
      exact H
    · rw [oe_lv_s z] at H
      rw [show q + 1 + oe_lv A n (A t) = q + (oe_lv A n (A t) + 1) by omega]
      exact H
theorem oe_w5 {x : Nat} (hx : x < 16) (h4 : oe_Ar a4 A) : ∀ n t i, i + n = 40 → t < 16 → post (cond (oe_ib A x n t) 1 0) → wX_inBranch_5 post (nI x) mk a1 a2 a3 a4 a5 a6 a7 a8 a9 (n + 1) (nI t) (nI i) := by
  intro n
  induction n with
  | zero =>
    intro t i hi ht H
    exact pk_le 40 i (fun _ => H) (fun z => absurd z (by omega))
  | succ n ih =>
    intro t i hi ht H
    refine pk_le 40 i (fun z => absurd z (by omega)) (fun _ => pk_eq t 0 (fun z => ?_) (fun z => pk_eq t x (fun z2 => ?_) (fun z2 => ⟨pk_in t 41 (by omega), nm_r (oe_g h4 ht) (nm_r (nI_1 i) (ih _ _ (by omega) (oe_gb h4 ht) ?_))⟩)))
    · rw [z, oe_ib_z] at H
      exact H
    · rw [oe_ib_s z, if_pos z2] at H
      exact H
    · rw [oe_ib_s z, if_neg z2] at H
      exact H
theorem oe_wlc (h6 : oe_Ar a6 N) : ∀ n c l i, i + n = 40 → c < 16 → post (nI (oe_lc N n c l)) → wX_lastChild_12 post mk a1 a2 a3 a4 a5 a6 a7 a8 a9 (n + 1) (nI l) (nI c) (nI i) := by
  intro n
  induction n with
  | zero =>
    intro c l i hi hc H
    exact pk_le 40 i (fun _ => H) (fun z => absurd z (by omega))
  | succ n ih =>
    intro c l i hi hc H
    refine pk_le 40 i (fun z => absurd z (by omega)) (fun _ => pk_eq c 0 (fun z => ?_) (fun z => ⟨pk_in c 41 (by omega), nm_r (oe_g h6 hc) (nm_r (nI_1 i) (ih _ _ _ (by omega) (oe_gb h6 hc) ?_))⟩))
    · rw [z, oe_lc_z] at H
      exact H
    · rw [oe_lc_s z] at H
      exact H
theorem oe_w20 (h4 : oe_Ar a4 A) (h6 : oe_Ar a6 N) : ∀ n t i, i + n = 40 → t < 16 → wX_behind_52 post (nI (oe_bl A N n t)) mk a1 a2 a3 a4 a5 a6 a7 a8 a9 → wX_behind_20 post mk a1 a2 a3 a4 a5 a6 a7 a8 a9 (n + 1) (nI t) (nI i) := by
  intro n
  induction n with
  | zero =>
    intro t i hi ht H
    exact pk_le 40 i (fun _ => H) (fun z => absurd z (by omega))
  | succ n ih =>
    intro t i hi ht H
    have b6 := oe_gb h6 ht
    refine pk_le 40 i (fun z => absurd z (by omega)) (fun _ => pk_eq t 0 (fun z => ?_) (fun z => ⟨pk_in t 41 (by omega), pk_eq (N t) 0 (fun z2 => ⟨pk_in t 41 (by omega), nm_r (oe_g h4 ht) (nm_r (nI_1 i) (ih _ _ (by omega) (oe_gb h4 ht) ?_))⟩) (fun z2 => ?_) (oe_g h6 ht)⟩))
    · rw [z, oe_bl_z] at H
      rw [z]
      exact H
    · rw [oe_bl_s z, if_pos z2] at H
      exact H
    · rw [oe_bl_s z, if_neg z2] at H
      exact H
theorem oe_wbh (h4 : oe_Ar a4 A) (h5 : oe_Ar a5 C) (h6 : oe_Ar a6 N) (bA : ∀ k, A k < 16) {x : Nat} (hx : x < 16) (H : post (nI (oe_bh A C N x))) : wpX_behind post (mk, a1, a2, a3, a4, a5, a6, a7, a8, a9) (nI x) := by
  have b5 := oe_gb h5 hx
  refine ⟨pk_in x 41 (by omega), pk_eq (C x) 0 (fun z => ⟨41, oe_w20 h4 h6 40 x 0 (by omega) hx ?_⟩) (fun z => ⟨pk_in x 41 (by omega), ?_⟩) (oe_g h5 hx)⟩
  · rw [oe_bh_l z] at H
    have bb : oe_bl A N 40 x < 16 := oe_bl_b bA 40 x hx
    unfold wX_behind_52
    refine pk_eq (oe_bl A N 40 x) 0 (fun z2 => ?_) (fun z2 => ⟨pk_in (oe_bl A N 40 x) 41 (by omega), ?_⟩)
    · rw [if_pos z2] at H
      exact H
    · rw [if_neg z2] at H
      rw [oe_g h6 bb]
      exact H
  · rw [oe_bh_c z] at H
    rw [oe_g h5 hx]
    exact H
theorem oe_wpo (h4 : oe_Ar a4 A) (h7 : oe_Ar a7 B) (h8 : oe_Ar a8 Z) : ∀ n t q i, i + n = 80 → t < 16 → q ≤ 16 * i → post (nI (oe_po A B Z n t q)) → wX_placeOf_7 post mk a1 a2 a3 a4 a5 a6 a7 a8 a9 (n + 1) (nI q) (nI t) (nI i) := by
  intro n
  induction n with
  | zero =>
    intro t q i hi ht hq H
    exact pk_le 80 i (fun _ => H) (fun z => absurd z (by omega))
  | succ n ih =>
    intro t q i hi ht hq H
    have b7 := oe_gb h7 ht
    have b4 := oe_gb h4 ht
    have b8 := oe_gb h8 b7
    refine pk_le 80 i (fun z => absurd z (by omega)) (fun _ => pk_eq t 0 (fun z => ?_) (fun z => ⟨pk_in t 41 (by omega), pk_eq (B t) 0 (fun z2 => ⟨pk_in t 41 (by omega), nm_r (oe_g h4 ht) (pk_eq (A t) 0 (fun z3 => nm_r (nI_1 i) (ih _ _ _ (by omega) b4 (by omega) ?_)) (fun z3 => nm_r (nI_1 q) (nm_r (nI_1 i) (ih _ _ _ (by omega) b4 (by omega) ?_))))⟩) (fun z2 => ⟨pk_in t 41 (by omega), nm_r (oe_g h7 ht) ⟨pk_in (B t) 41 (by omega), nm_r (show nI q + a8 (nI (B t)).toNatClampNeg = nI (q + Z (B t)) by rw [oe_g h8 b7, nI_add]) (nm_r (nI_1 i) (ih _ _ _ (by omega) b7 (by omega) ?_))⟩⟩) (oe_g h7 ht)⟩))
    · rw [z, oe_po_z] at H
      exact H
    · rw [oe_po_a z z2, if_pos z3] at H
      rw [z3]
      exact H
    · rw [oe_po_a z z2, if_neg z3] at H
      exact H
    · rw [oe_po_b z z2] at H
      exact H
def oe_rc : Nat → Int32 | 0 => -4 | c + 1 => nI c
theorem oe_wro (h3 : oe_Ar a3 F) (h4 : oe_Ar a4 A) (h7 : oe_Ar a7 B) (h9 : oe_Ar a9 R) : ∀ n t q i, i + n = 80 → t < 16 → q ≤ 16 * i → post (oe_rc (oe_ro A B F R n t q)) → wX_rowOf_21 post mk a1 a2 a3 a4 a5 a6 a7 a8 a9 (n + 1) (nI t) (nI q) (nI i) := by
  intro n
  induction n with
  | zero =>
    intro t q i hi ht hq H
    exact pk_le 80 i (fun _ => H) (fun z => absurd z (by omega))
  | succ n ih =>
    intro t q i hi ht hq H
    have b7 := oe_gb h7 ht
    have b4 := oe_gb h4 ht
    have b9 := oe_gb h9 b7
    have b3 := oe_gb h3 b4
    refine pk_le 80 i (fun z => absurd z (by omega)) (fun _ => pk_eq t 0 (fun z => ?_) (fun z => ⟨pk_in t 41 (by omega), pk_eq (B t) 0 (fun z2 => ⟨pk_in t 41 (by omega), nm_r (oe_g h4 ht) (pk_eq (A t) 0 (fun z3 => ?_) (fun z3 => ⟨pk_in (A t) 41 (by omega), pk_eq (F (A t)) 0 (fun z4 => ?_) (fun z4 => ?_) (oe_g h3 b4)⟩))⟩) (fun z2 => ⟨pk_in t 41 (by omega), nm_r (oe_g h7 ht) ⟨pk_in (B t) 41 (by omega), nm_r (show nI q + a9 (nI (B t)).toNatClampNeg = nI (q + R (B t)) by rw [oe_g h9 b7, nI_add]) (nm_r (nI_1 i) (ih _ _ _ (by omega) b7 (by omega) ?_))⟩⟩) (oe_g h7 ht)⟩))
    · rw [z, oe_ro_z] at H
      exact H
    · rw [oe_ro_a z z2, if_pos z3] at H
      unfold wX_rowOf_83
      refine pk_eq (A t) 0 (fun z5 => nm_r (nI_1 i) (ih _ _ _ (by omega) b4 (by omega) ?_)) (fun z5 => absurd z3 z5)
      rw [z3]
      exact H
    · rw [oe_ro_a z z2, if_neg z3, if_pos z4] at H
      unfold wX_rowOf_83
      exact pk_eq (A t) 0 (fun z5 => absurd z5 z3) (fun z5 => nm_r (nI_1 q) (nm_r (nI_1 i) (ih _ _ _ (by omega) b4 (by omega) H)))
    · rw [oe_ro_a z z2, if_neg z3, if_neg z4] at H
      exact H
    · rw [oe_ro_b z z2] at H
      exact H
/-- rowOf where only unfolded nodes are met: some row -/
theorem oe_wrk (h3 : oe_Ar a3 F) (h4 : oe_Ar a4 A) (h7 : oe_Ar a7 B) (h9 : oe_Ar a9 R) (hM : ∀ k, k < 16 → M k ≠ 0 → F k = 0) (H : ∀ r, r < 5000 → post (nI r)) : ∀ n t q i, i + n = 80 → t < 16 → q ≤ 16 * i → oe_ck A B M n t = true → wX_rowOf_21 post mk a1 a2 a3 a4 a5 a6 a7 a8 a9 (n + 1) (nI t) (nI q) (nI i) := by
  intro n
  induction n with
  | zero =>
    intro t q i hi ht hq _
    exact pk_le 80 i (fun _ => H q (by omega)) (fun z => absurd z (by omega))
  | succ n ih =>
    intro t q i hi ht hq K
    have b7 := oe_gb h7 ht
    have b4 := oe_gb h4 ht
    have b9 := oe_gb h9 b7
    have b3 := oe_gb h3 b4
    refine pk_le 80 i (fun z => absurd z (by omega)) (fun _ => pk_eq t 0 (fun z => H q (by omega)) (fun z => ⟨pk_in t 41 (by omega), pk_eq (B t) 0 (fun z2 => ⟨pk_in t 41 (by omega), nm_r (oe_g h4 ht) (pk_eq (A t) 0 (fun z3 => ?_) (fun z3 => ⟨pk_in (A t) 41 (by omega), pk_eq (F (A t)) 0 (fun z4 => ?_) (fun z4 => ?_) (oe_g h3 b4)⟩))⟩) (fun z2 => ⟨pk_in t 41 (by omega), nm_r (oe_g h7 ht) ⟨pk_in (B t) 41 (by omega), nm_r (show nI q + a9 (nI (B t)).toNatClampNeg = nI (q + R (B t)) by rw [oe_g h9 b7, nI_add]) (nm_r (nI_1 i) (ih _ _ _ (by omega) b7 (by omega) ?_))⟩⟩) (oe_g h7 ht)⟩))
    · rw [oe_ck_a z z2, if_pos z3] at K
      unfold wX_rowOf_83
      refine pk_eq (A t) 0 (fun z5 => nm_r (nI_1 i) (ih _ _ _ (by omega) b4 (by omega) ?_)) (fun z5 => absurd z3 z5)
      rw [z3]
      exact K
    · rw [oe_ck_a z z2, if_neg z3] at K
      by_cases e : M (A t) = 0
      · rw [if_pos e] at K
        exact absurd K (by decide)
      · rw [if_neg e] at K
        unfold wX_rowOf_83
        exact pk_eq (A t) 0 (fun z5 => absurd z5 z3) (fun z5 => nm_r (nI_1 q) (nm_r (nI_1 i) (ih _ _ _ (by omega) b4 (by omega) K)))
    · rw [oe_ck_a z z2, if_neg z3] at K
      by_cases e : M (A t) = 0
      · rw [if_pos e] at K
        exact absurd K (by decide)
      · exact absurd (hM _ b4 e) z4
    · rw [oe_ck_b z z2] at K
      exact K
theorem oe_w15 (h4 : oe_Ar a4 A) (h5 : oe_Ar a5 C) (h6 : oe_Ar a6 N) (bA : ∀ k, A k < 16) (bC : ∀ k, C k < 16) (bN : ∀ k, N k < 16) {e : Nat} (he : e < 1000) : ∀ n t d i, i + n = e → t < 16 → d < 100 → post (nI (oe_dp A C N n t d)) → wX_deepestIn_15 post (nI e) mk a1 a2 a3 a4 a5 a6 a7 a8 a9 (n + 1) (nI d) (nI t) (nI i) := by
  intro n
  induction n with
  | zero =>
    intro t d i hi ht hd H
    exact pk_le e i (fun _ => H) (fun z => absurd z (by omega))
  | succ n ih =>
    intro t d i hi ht hd H
    rw [oe_dp_s] at H
    have bv : oe_lv A 40 t ≤ 40 := oe_lv_b 40 t
    refine pk_le e i (fun z => absurd z (by omega)) (fun _ => ⟨41, oe_w7 h4 40 t 0 0 (by omega) ht ?_⟩)
    rw [Nat.zero_add]
    refine ek_if (oe_m1_le (by omega) (by omega)) (fun z => ?_) (fun z => ?_)
    · rw [if_pos z] at H
      exact oe_wbh h4 h5 h6 bA ht (nm_r (nI_1 i) (ih _ _ _ (by omega) (oe_bh_b bC bN) hd H))
    · rw [if_neg z] at H
      rw [sb_m1 (show 0 < oe_lv A 40 t by omega)]
      exact oe_wbh h4 h5 h6 bA ht (nm_r (nI_1 i) (ih _ _ _ (by omega) (oe_bh_b bC bN) (by omega) H))
end
/-! the same, at the methods' names -/
section
variable {m A C N B Z : Nat} {R F : Nat → Nat} {s : St2} {post : Int32 → Prop}
theorem oe_m_bad {i : Nat} (h : oe_M m A C N B Z R F s) (hi : i < oe_rd Z 0) (H : post 0) : wpX_bad post s (nI i) := by
  obtain ⟨mk, a1, a2, a3, a4, a5, a6, a7, a8, a9⟩ := s
  obtain ⟨_, _, _, h3, h4, h5, h6, h7, h8, h9⟩ := h
  have b := oe_rd_lt Z 0
  exact pk_lt i 0 (fun z => absurd z (by omega)) (fun _ => pk_lt i (oe_rd Z 0) (fun _ => H) (fun z => absurd z (by omega)) rfl (h8 0 (by omega)).1)
theorem oe_m_na {r : Nat} (h : oe_M m A C N B Z R F s) (hr : r < 1000) (H : post (nI (oe_na (oe_rd C) (oe_rd N) (oe_rd Z) 80 (oe_rd C 0) r))) : wpX_nodeAt post s (nI r) := by
  obtain ⟨mk, a1, a2, a3, a4, a5, a6, a7, a8, a9⟩ := s
  obtain ⟨_, _, _, h3, h4, h5, h6, h7, h8, h9⟩ := h
  exact nm_r (h5 0 (by omega)).1 ⟨81, oe_w12 h5 h6 h8 80 _ _ 0 (by omega) (oe_rd_lt C 0) hr H⟩
theorem oe_m_lv {t : Nat} (h : oe_M m A C N B Z R F s) (ht : t < 16) (H : post (nI (oe_lv (oe_rd A) 40 t) + (-1))) : wpX_levelOf post s (nI t) := by
  obtain ⟨mk, a1, a2, a3, a4, a5, a6, a7, a8, a9⟩ := s
  obtain ⟨_, _, _, h3, h4, h5, h6, h7, h8, h9⟩ := h
  refine ⟨41, oe_w7 h4 40 t 0 0 (by omega) ht ?_⟩
  rw [Nat.zero_add]
  exact H
theorem oe_m_ib {x t : Nat} (h : oe_M m A C N B Z R F s) (hx : x < 16) (ht : t < 16) (H : post (cond (oe_ib (oe_rd A) x 40 t) 1 0)) : wpX_inBranch post s (nI x) (nI t) := by
  obtain ⟨mk, a1, a2, a3, a4, a5, a6, a7, a8, a9⟩ := s
  obtain ⟨_, _, _, h3, h4, h5, h6, h7, h8, h9⟩ := h
  exact ⟨41, oe_w5 hx h4 40 t 0 (by omega) ht H⟩
theorem oe_m_lc {x : Nat} (h : oe_M m A C N B Z R F s) (hx : x < 16) (H : post (nI (oe_lc (oe_rd N) 40 (oe_rd C x) 0))) : wpX_lastChild post s (nI x) := by
  obtain ⟨mk, a1, a2, a3, a4, a5, a6, a7, a8, a9⟩ := s
  obtain ⟨_, _, _, h3, h4, h5, h6, h7, h8, h9⟩ := h
  exact ⟨pk_in x 41 (by omega), nm_r (oe_g h5 hx) ⟨41, oe_wlc h6 40 _ 0 0 (by omega) (oe_rd_lt C x) H⟩⟩
theorem oe_m_po {t : Nat} (h : oe_M m A C N B Z R F s) (ht : t < 16) (H : post (nI (oe_po (oe_rd A) (oe_rd B) (oe_rd Z) 80 t 0))) : wpX_placeOf post s (nI t) := by
  obtain ⟨mk, a1, a2, a3, a4, a5, a6, a7, a8, a9⟩ := s
  obtain ⟨_, _, _, h3, h4, h5, h6, h7, h8, h9⟩ := h
  exact ⟨81, oe_wpo h4 h7 h8 80 t 0 0 (by omega) ht (by omega) H⟩
theorem oe_m_dp {x : Nat} (h : oe_M m A C N B Z R F s) (hx : x < 16) (H : post (nI (oe_dp (oe_rd A) (oe_rd C) (oe_rd N) (oe_rd Z x) x 0))) : wpX_deepestIn post s (nI x) := by
  obtain ⟨mk, a1, a2, a3, a4, a5, a6, a7, a8, a9⟩ := s
  obtain ⟨_, _, _, h3, h4, h5, h6, h7, h8, h9⟩ := h
  have b := oe_rd_lt Z x
  exact ⟨pk_in x 41 (by omega), nm_r (oe_g h8 hx) ⟨oe_rd Z x + 1, oe_w15 h4 h5 h6 (oe_rd_lt A) (oe_rd_lt C) (oe_rd_lt N) (by omega) _ x 0 0 (by omega) hx (by omega) H⟩⟩
theorem oe_m_name {i x : Nat} (h : oe_M m A C N B Z R F s) (hi : i < oe_rd Z 0) (e : oe_na (oe_rd C) (oe_rd N) (oe_rd Z) 80 (oe_rd C 0) i = x) (h1 : 1 ≤ x) (hx : x ≤ m) (hm : m < 16) (H : post (nI (x - 1))) : wpX_name post s (nI i) := by
  have b := oe_rd_lt Z 0
  have h' := h
  obtain ⟨mk, a1, a2, a3, a4, a5, a6, a7, a8, a9⟩ := s
  obtain ⟨_, _, h2, _⟩ := h'
  unfold wpX_name
  dsimp only
  refine oe_m_bad h hi ?_
  refine br_t rfl ?_
  refine oe_m_na (r := i) h (by omega) ?_
  rw [e]
  refine ⟨pk_in x 41 (by omega), ?_⟩
  rw [nI_clamp (by omega)]
  rw [show a2 x = nI (x - 1) from h2 x h1 hx]
  exact H
theorem oe_m_level {i x : Nat} (h : oe_M m A C N B Z R F s) (hi : i < oe_rd Z 0) (e : oe_na (oe_rd C) (oe_rd N) (oe_rd Z) 80 (oe_rd C 0) i = x) (hx : x < 16) (H : post (nI (oe_lv (oe_rd A) 40 x) + (-1))) : wpX_level post s (nI i) := by
  have b := oe_rd_lt Z 0
  have h' := h
  obtain ⟨mk, a1, a2, a3, a4, a5, a6, a7, a8, a9⟩ := s
  unfold wpX_level
  dsimp only
  refine oe_m_bad h hi ?_
  refine br_t rfl ?_
  refine oe_m_na (r := i) h (by omega) ?_
  rw [e]
  exact oe_m_lv h hx H
theorem oe_m_under {i x : Nat} (h : oe_M m A C N B Z R F s) (hi : i < oe_rd Z 0) (e : oe_na (oe_rd C) (oe_rd N) (oe_rd Z) 80 (oe_rd C 0) i = x) (hx : x < 16) (h1 : 1 ≤ oe_rd Z x) (H : post (nI (oe_rd Z x - 1))) : wpX_under post s (nI i) := by
  have b := oe_rd_lt Z 0
  have h' := h
  obtain ⟨mk, a1, a2, a3, a4, a5, a6, a7, a8, a9⟩ := s
  obtain ⟨_, _, _, h3, h4, h5, h6, h7, h8, h9⟩ := h'
  unfold wpX_under
  dsimp only
  refine oe_m_bad h hi ?_
  refine br_t rfl ?_
  refine oe_m_na (r := i) h (by omega) ?_
  rw [e]
  refine ⟨pk_in x 41 (by omega), ?_⟩
  rw [show a8 (nI x).toNatClampNeg = nI (oe_rd Z x) from oe_g h8 hx]
  rw [show nI (oe_rd Z x) - 1 = nI (oe_rd Z x - 1) from pk_sub (b := 1) h1]
  exact H
theorem oe_m_parent {i x : Nat} (h : oe_M m A C N B Z R F s) (hi : i < oe_rd Z 0) (e : oe_na (oe_rd C) (oe_rd N) (oe_rd Z) 80 (oe_rd C 0) i = x) (hx : x < 16) (H0 : oe_rd A x = 0 → post (-4)) (H1 : oe_rd A x ≠ 0 → post (nI (oe_po (oe_rd A) (oe_rd B) (oe_rd Z) 80 (oe_rd A x) 0))) : wpX_parent post s (nI i) := by
  have b := oe_rd_lt Z 0
  have b4 := oe_rd_lt A x
  have h' := h
  obtain ⟨mk, a1, a2, a3, a4, a5, a6, a7, a8, a9⟩ := s
  obtain ⟨_, _, _, h3, h4, h5, h6, h7, h8, h9⟩ := h'
  unfold wpX_parent
  dsimp only
  refine oe_m_bad h hi ?_
  refine br_t rfl ?_
  refine oe_m_na (r := i) h (by omega) ?_
  rw [e]
  refine ⟨pk_in x 41 (by omega), pk_eq (oe_rd A x) 0 H0 (fun z => ⟨pk_in x 41 (by omega), ?_⟩) (oe_g h4 hx)⟩
  rw [show a4 (nI x).toNatClampNeg = nI (oe_rd A x) from oe_g h4 hx]
  exact oe_m_po h b4 (H1 z)
theorem oe_m_ro {i x : Nat} (h : oe_M m A C N B Z R F s) (hi : i < oe_rd Z 0) (e : oe_na (oe_rd C) (oe_rd N) (oe_rd Z) 80 (oe_rd C 0) i = x) (hx : x < 16) (H : post (oe_rc (oe_ro (oe_rd A) (oe_rd B) F R 80 x 0))) : wpX_rowOf post s (nI i) := by
  have b := oe_rd_lt Z 0
  have h' := h
  obtain ⟨mk, a1, a2, a3, a4, a5, a6, a7, a8, a9⟩ := s
  obtain ⟨_, _, _, h3, h4, h5, h6, h7, h8, h9⟩ := h'
  unfold wpX_rowOf
  dsimp only
  refine oe_m_bad h hi ?_
  refine br_t rfl ?_
  refine oe_m_na (r := i) h (by omega) ?_
  rw [e]
  exact ⟨81, oe_wro h3 h4 h7 h9 80 x 0 0 (by omega) hx (by omega) H⟩
theorem oe_m_rk {i x W : Nat} (h : oe_M m A C N B Z R F s) (hi : i < oe_rd Z 0) (e : oe_na (oe_rd C) (oe_rd N) (oe_rd Z) 80 (oe_rd C 0) i = x) (hx : x < 16) (hM : ∀ k, k < 16 → oe_rd W k ≠ 0 → F k = 0) (K : oe_ck (oe_rd A) (oe_rd B) (oe_rd W) 80 x = true) (H : ∀ r, r < 5000 → post (nI r)) : wpX_rowOf post s (nI i) := by
  have b := oe_rd_lt Z 0
  have h' := h
  obtain ⟨mk, a1, a2, a3, a4, a5, a6, a7, a8, a9⟩ := s
  obtain ⟨_, _, _, h3, h4, h5, h6, h7, h8, h9⟩ := h'
  unfold wpX_rowOf
  dsimp only
  refine oe_m_bad h hi ?_
  refine br_t rfl ?_
  refine oe_m_na (r := i) h (by omega) ?_
  rw [e]
  exact ⟨81, oe_wrk h3 h4 h7 h9 hM H 80 x 0 0 (by omega) hx (by omega) K⟩
end
end
section
/-! The walk: pull and pullUp. -/
section
variable {mk : Int32} {a1 a2 a3 a4 a5 a6 a7 a8 a9 : Nat → Int32} {A B C N Z R F : Nat → Nat} {post : St2 → Prop}
theorem oe_w23 {x : Nat} (hx : x < 16) (h3 : oe_Ar a3 F) (h6 : oe_Ar a6 N) (h8 : oe_Ar a8 Z) (h9 : oe_Ar a9 R) : ∀ n c p q i, i + n = 40 → c < 16 → p ≤ 1 + 15 * i → q ≤ 1 + 15 * i → wX_pull_79 post (nI x) (nI (p + oe_sm N Z n c)) (nI (q + if F x = 0 then oe_sm N R n c else 0)) mk a1 a2 a3 a4 a5 a6 a7 a8 a9 → wX_pull_23 post (nI x) mk a1 a2 a3 a4 a5 a6 a7 a8 a9 (n + 1) (nI p) (nI q) (nI c) (nI i) := by
  intro n
  induction n with
  | zero =>
    intro c p q i hi hc hp hq H
    rw [oe_sm_0, oe_sm_0, ite_self] at H
    exact pk_le 40 i (fun _ => H) (fun z => absurd z (by omega))
  | succ n ih =>
    intro c p q i hi hc hp hq H
    have b3 := oe_gb h3 hx
    have b8 := oe_gb h8 hc
    have b9 := oe_gb h9 hc
    refine pk_le 40 i (fun z => absurd z (by omega)) (fun _ => pk_eq c 0 (fun z => ?_) (fun z => ⟨pk_in c 41 (by omega), nm_r (show nI p + a8 (nI c).toNatClampNeg = nI (p + Z c) by rw [oe_g h8 hc, nI_add]) ⟨pk_in x 41 (by omega), pk_eq (F x) 0 (fun z2 => ⟨pk_in c 41 (by omega), nm_r (show nI q + a9 (nI c).toNatClampNeg = nI (q + R c) by rw [oe_g h9 hc, nI_add]) ⟨pk_in c 41 (by omega), nm_r (oe_g h6 hc) (nm_r (nI_1 i) (ih _ _ _ _ (by omega) (oe_gb h6 hc) (by omega) (by omega) ?_))⟩⟩) (fun z2 => ⟨pk_in c 41 (by omega), nm_r (oe_g h6 hc) (nm_r (nI_1 i) (ih _ _ _ _ (by omega) (oe_gb h6 hc) (by omega) (by omega) ?_))⟩) (oe_g h3 hx)⟩⟩))
    · rw [z, oe_sm_z, oe_sm_z, ite_self] at H
      exact H
    · rw [oe_sm_s z, oe_sm_s z, if_pos z2] at H
      rw [if_pos z2, Nat.add_assoc, Nat.add_assoc]
      exact H
    · rw [oe_sm_s z, if_neg z2] at H
      rw [if_neg z2, Nat.add_assoc]
      exact H
end
theorem oe_m_pull {m A C N B Z : Nat} {R F : Nat → Nat} {s : St2} {post : St2 → Prop} {x : Nat} (h : oe_M m A C N B Z R F s) (hx : x < 16)
    (hv : oe_vz (oe_rd C) (oe_rd N) (oe_rd Z) x < 16) (hw : oe_vw (oe_rd C) (oe_rd N) F R x < 16)
    (H : ∀ s', oe_M m A C N B (oe_wr Z x (oe_vz (oe_rd C) (oe_rd N) (oe_rd Z) x)) (oe_up R x (oe_vw (oe_rd C) (oe_rd N) F R x)) F s' → post s') : wpX_pull post s (nI x) := by
  obtain ⟨mk, a1, a2, a3, a4, a5, a6, a7, a8, a9⟩ := s
  obtain ⟨g0, g1, g2, h3, h4, h5, h6, h7, h8, h9⟩ := h
  rw [oe_vw_E] at hw H
  rw [oe_vz_E] at hv H
  have K : ∀ o, oe_ow x = o → o ≤ 1 → wX_pull_9 post (nI x) (nI o) mk a1 a2 a3 a4 a5 a6 a7 a8 a9 := by
    intro o ho hb
    rw [ho] at hv hw H
    exact ⟨pk_in x 41 (by omega), nm_r (oe_g h5 hx) ⟨41, oe_w23 hx h3 h6 h8 h9 40 _ o o 0 (by omega) (oe_rd_lt C x) (by omega) (by omega)
      ⟨pk_in x 41 (by omega), nm_e ⟨pk_in x 41 (by omega), nm_e (H _ ⟨g0, g1, g2, h3, h4, h5, h6, h7, oe_Ar_wr h8 hx hv, oe_Ar_up h9 hx hw⟩)⟩⟩⟩⟩
  exact pk_eq x 0 (fun z => K 0 (by rw [z]; rfl) (by omega)) (fun z => K 1 (oe_ow_s z) (by omega))
/-! pullUp: I holds ahead of each turn, E at the last -/
theorem oe_w4 {m A C N B : Nat} {F : Nat → Nat} {post : St2 → Prop} (I : Nat → Nat → Nat → (Nat → Nat) → Prop) (E : Nat → (Nat → Nat) → Prop)
    (hS : ∀ n t Z R, t < 16 → t ≠ 0 → I (n + 1) t Z R → oe_vz (oe_rd C) (oe_rd N) (oe_rd Z) t < 16 ∧ oe_vw (oe_rd C) (oe_rd N) F R t < 16 ∧ I n (oe_rd A t) (oe_wr Z t (oe_vz (oe_rd C) (oe_rd N) (oe_rd Z) t)) (oe_up R t (oe_vw (oe_rd C) (oe_rd N) F R t)))
    (hE : ∀ n t Z R, (n = 0 ∨ t = 0) → I n t Z R → oe_vz (oe_rd C) (oe_rd N) (oe_rd Z) 0 < 16 ∧ oe_vw (oe_rd C) (oe_rd N) F R 0 < 16 ∧ E (oe_wr Z 0 (oe_vz (oe_rd C) (oe_rd N) (oe_rd Z) 0)) (oe_up R 0 (oe_vw (oe_rd C) (oe_rd N) F R 0)))
    (H : ∀ s Z R, E Z R → oe_M m A C N B Z R F s → post s) :
    ∀ n i t Z R (mk : Int32) (a1 a2 a3 a4 a5 a6 a7 a8 a9 : Nat → Int32), i + n = 40 → t < 16 → I n t Z R → oe_M m A C N B Z R F (mk, a1, a2, a3, a4, a5, a6, a7, a8, a9) → wX_pullUp_4 post (n + 1) (nI t) (nI i) mk a1 a2 a3 a4 a5 a6 a7 a8 a9 := by
  have fin : ∀ n t Z R (mk : Int32) (a1 a2 a3 a4 a5 a6 a7 a8 a9 : Nat → Int32), (n = 0 ∨ t = 0) → I n t Z R → oe_M m A C N B Z R F (mk, a1, a2, a3, a4, a5, a6, a7, a8, a9) → wX_pullUp_32 post mk a1 a2 a3 a4 a5 a6 a7 a8 a9 := by
    intro n t Z R mk a1 a2 a3 a4 a5 a6 a7 a8 a9 ho hI h
    obtain ⟨b1, b2, e⟩ := hE n t Z R ho hI
    unfold wX_pullUp_32
    refine oe_m_pull (x := 0) h (by omega) b1 b2 (fun s' h' => ?_)
    obtain ⟨mk', b1, b2, b3, b4, b5, b6, b7, b8, b9⟩ := s'
    exact H _ _ _ e h'
  intro n
  induction n with
  | zero =>
    intro i t Z R mk a1 a2 a3 a4 a5 a6 a7 a8 a9 hi ht hI h
    exact pk_le 40 i (fun _ => fin 0 t Z R mk a1 a2 a3 a4 a5 a6 a7 a8 a9 (Or.inl rfl) hI h) (fun z => absurd z (by omega))
  | succ n ih =>
    intro i t Z R mk a1 a2 a3 a4 a5 a6 a7 a8 a9 hi ht hI h
    refine pk_le 40 i (fun z => absurd z (by omega)) (fun _ => pk_eq t 0 (fun z => fin (n + 1) t Z R mk a1 a2 a3 a4 a5 a6 a7 a8 a9 (Or.inr z) hI h) (fun z => ?_))
    obtain ⟨b1, b2, e⟩ := hS n t Z R ht z hI
    refine oe_m_pull h ht b1 b2 (fun s' h' => ?_)
    obtain ⟨mk', b1, b2, b3, b4, b5, b6, b7, b8, b9⟩ := s'
    have h4 : oe_Ar b4 (oe_rd A) := h'.2.2.2.2.1
    exact ⟨pk_in t 41 (by omega), nm_r (oe_g h4 ht) (nm_r (nI_1 i) (ih _ _ _ _ _ _ _ _ _ _ _ _ _ _ (by omega) (oe_rd_lt A t) e h'))⟩
theorem oe_m_pu {m A C N B Z : Nat} {R F : Nat → Nat} {s : St2} {post : St2 → Prop} {t : Nat} (I : Nat → Nat → Nat → (Nat → Nat) → Prop) (E : Nat → (Nat → Nat) → Prop)
    (hS : ∀ n t Z R, t < 16 → t ≠ 0 → I (n + 1) t Z R → oe_vz (oe_rd C) (oe_rd N) (oe_rd Z) t < 16 ∧ oe_vw (oe_rd C) (oe_rd N) F R t < 16 ∧ I n (oe_rd A t) (oe_wr Z t (oe_vz (oe_rd C) (oe_rd N) (oe_rd Z) t)) (oe_up R t (oe_vw (oe_rd C) (oe_rd N) F R t)))
    (hE : ∀ n t Z R, (n = 0 ∨ t = 0) → I n t Z R → oe_vz (oe_rd C) (oe_rd N) (oe_rd Z) 0 < 16 ∧ oe_vw (oe_rd C) (oe_rd N) F R 0 < 16 ∧ E (oe_wr Z 0 (oe_vz (oe_rd C) (oe_rd N) (oe_rd Z) 0)) (oe_up R 0 (oe_vw (oe_rd C) (oe_rd N) F R 0)))
    (h : oe_M m A C N B Z R F s) (ht : t < 16) (hI : I 40 t Z R) (H : ∀ s Z R, E Z R → oe_M m A C N B Z R F s → post s) : wpX_pullUp post s (nI t) := by
  obtain ⟨mk, a1, a2, a3, a4, a5, a6, a7, a8, a9⟩ := s
  exact ⟨41, oe_w4 I E hS hE H 40 0 t Z R mk a1 a2 a3 a4 a5 a6 a7 a8 a9 (by omega) ht hI h⟩
/-! the computation of pullUp, a row each -/
theorem oe_pz_s {A C N : Nat → Nat} {k : Nat → Bool} {n t Z : Nat} (h : t ≠ 0) : oe_pz A C N k (n + 1) t Z = oe_gd (oe_vz C N (oe_rd Z) t) (fun v => oe_fc (oe_wr Z t v) (fun Z' => oe_pz A C N k n (A t) Z')) := by
  cases t with
  | zero => exact absurd rfl h
  | succ t => rfl
theorem oe_pz_e {A C N : Nat → Nat} {k : Nat → Bool} {n t Z : Nat} (h : n = 0 ∨ t = 0) : oe_pz A C N k n t Z = oe_gd (oe_vz C N (oe_rd Z) 0) (fun v => oe_fc (oe_wr Z 0 v) k) := by
  cases n with
  | zero => rfl
  | succ n =>
    cases t with
    | zero => rfl
    | succ t => exact absurd h (by omega)
theorem oe_pr_s {A C N F : Nat → Nat} {k : Nat → Bool} {n t R : Nat} (h : t ≠ 0) : oe_pr A C N F k (n + 1) t R = oe_gd (oe_vw C N F (oe_rd R) t) (fun v => oe_fc (oe_wr R t v) (fun R' => oe_pr A C N F k n (A t) R')) := by
  cases t with
  | zero => exact absurd rfl h
  | succ t => rfl
theorem oe_pr_e {A C N F : Nat → Nat} {k : Nat → Bool} {n t R : Nat} (h : n = 0 ∨ t = 0) : oe_pr A C N F k n t R = oe_gd (oe_vw C N F (oe_rd R) 0) (fun v => oe_fc (oe_wr R 0 v) k) := by
  cases n with
  | zero => rfl
  | succ n =>
    cases t with
    | zero => rfl
    | succ t => exact absurd h (by omega)
theorem oe_pz_S {A C N : Nat → Nat} {k : Nat → Bool} {n t Z : Nat} (h : t ≠ 0) (K : oe_pz A C N k (n + 1) t Z = true) : oe_vz C N (oe_rd Z) t < 16 ∧ oe_pz A C N k n (A t) (oe_wr Z t (oe_vz C N (oe_rd Z) t)) = true := by
  rw [oe_pz_s h] at K
  obtain ⟨h1, h2⟩ := oe_gdE K
  rw [oe_fcE] at h2
  exact ⟨h1, h2⟩
theorem oe_pz_E {A C N : Nat → Nat} {k : Nat → Bool} {n t Z : Nat} (h : n = 0 ∨ t = 0) (K : oe_pz A C N k n t Z = true) : oe_vz C N (oe_rd Z) 0 < 16 ∧ k (oe_wr Z 0 (oe_vz C N (oe_rd Z) 0)) = true := by
  rw [oe_pz_e h] at K
  obtain ⟨h1, h2⟩ := oe_gdE K
  rw [oe_fcE] at h2
  exact ⟨h1, h2⟩
theorem oe_pr_S {A C N F : Nat → Nat} {k : Nat → Bool} {n t R : Nat} (h : t ≠ 0) (K : oe_pr A C N F k (n + 1) t R = true) : oe_vw C N F (oe_rd R) t < 16 ∧ oe_pr A C N F k n (A t) (oe_wr R t (oe_vw C N F (oe_rd R) t)) = true := by
  rw [oe_pr_s h] at K
  obtain ⟨h1, h2⟩ := oe_gdE K
  rw [oe_fcE] at h2
  exact ⟨h1, h2⟩
theorem oe_pr_E {A C N F : Nat → Nat} {k : Nat → Bool} {n t R : Nat} (h : n = 0 ∨ t = 0) (K : oe_pr A C N F k n t R = true) : oe_vw C N F (oe_rd R) 0 < 16 ∧ k (oe_wr R 0 (oe_vw C N F (oe_rd R) 0)) = true := by
  rw [oe_pr_e h] at K
  obtain ⟨h1, h2⟩ := oe_gdE K
  rw [oe_fcE] at h2
  exact ⟨h1, h2⟩
/-! rows against sizes -/
theorem oe_vw_le {C N F R Z : Nat → Nat} (h : ∀ y, R y ≤ Z y) (x : Nat) : oe_vw C N F R x ≤ oe_vz C N Z x := by
  rw [oe_vw_E, oe_vz_E]
  have := oe_sm_mono (N := N) h 40 (C x)
  by_cases e : F x = 0
  · rw [if_pos e]; omega
  · rw [if_neg e]; omega
theorem oe_vw_0 {C N Z : Nat → Nat} (x : Nat) : oe_vw C N (fun _ => 0) Z x = oe_vz C N Z x := by
  rw [oe_vw_E, oe_vz_E, if_pos rfl]
theorem oe_up_le {R : Nat → Nat} {Z x v w : Nat} (h : ∀ y, R y ≤ oe_rd Z y) (hv : v < 16) (hw : w ≤ v) : ∀ y, oe_up R x w y ≤ oe_rd (oe_wr Z x v) y := by
  intro y
  rw [oe_rw Z x hv]
  by_cases e : y = x
  · rw [e, oe_up_s, oe_up_s]; exact hw
  · rw [oe_up_n _ e, oe_up_n _ e]; exact h y
/-! three ways of use: nothing folded; rows bounded; rows known -/
theorem oe_puA {m A C N B Z : Nat} {s : St2} {post : St2 → Prop} {t : Nat} {k : Nat → Bool} (h : oe_M m A C N B Z (oe_rd Z) (fun _ => 0) s) (ht : t < 16)
    (K : oe_pz (oe_rd A) (oe_rd C) (oe_rd N) k 40 t Z = true) (H : ∀ s Z, k Z = true → oe_M m A C N B Z (oe_rd Z) (fun _ => 0) s → post s) : wpX_pullUp post s (nI t) := by
  refine oe_m_pu (fun n t Z R => R = oe_rd Z ∧ oe_pz (oe_rd A) (oe_rd C) (oe_rd N) k n t Z = true) (fun Z R => R = oe_rd Z ∧ k Z = true) ?_ ?_ h ht ⟨rfl, K⟩ ?_
  · intro n t Z R _ h0 hI
    obtain ⟨e, K⟩ := hI
    obtain ⟨b, K'⟩ := oe_pz_S h0 K
    rw [e, oe_vw_0]
    exact ⟨b, b, (oe_rw Z t b).symm, K'⟩
  · intro n t Z R h0 hI
    obtain ⟨e, K⟩ := hI
    obtain ⟨b, K'⟩ := oe_pz_E h0 K
    rw [e, oe_vw_0]
    exact ⟨b, b, (oe_rw Z 0 b).symm, K'⟩
  · intro s Z R hE h
    obtain ⟨e, K⟩ := hE
    rw [e] at h
    exact H s Z K h
theorem oe_puB {m A C N B Z : Nat} {R F : Nat → Nat} {s : St2} {post : St2 → Prop} {t : Nat} {k : Nat → Bool} (h : oe_M m A C N B Z R F s) (hR : ∀ y, R y ≤ oe_rd Z y) (ht : t < 16)
    (K : oe_pz (oe_rd A) (oe_rd C) (oe_rd N) k 40 t Z = true) (H : ∀ s Z R, k Z = true → (∀ y, R y ≤ oe_rd Z y) → oe_M m A C N B Z R F s → post s) : wpX_pullUp post s (nI t) := by
  refine oe_m_pu (fun n t Z R => (∀ y, R y ≤ oe_rd Z y) ∧ oe_pz (oe_rd A) (oe_rd C) (oe_rd N) k n t Z = true) (fun Z R => (∀ y, R y ≤ oe_rd Z y) ∧ k Z = true) ?_ ?_ h ht ⟨hR, K⟩ ?_
  · intro n t Z R _ h0 hI
    obtain ⟨e, K⟩ := hI
    obtain ⟨b, K'⟩ := oe_pz_S h0 K
    have w := oe_vw_le (C := oe_rd C) (N := oe_rd N) (F := F) e t
    exact ⟨b, Nat.lt_of_le_of_lt w b, oe_up_le e b w, K'⟩
  · intro n t Z R h0 hI
    obtain ⟨e, K⟩ := hI
    obtain ⟨b, K'⟩ := oe_pz_E h0 K
    have w := oe_vw_le (C := oe_rd C) (N := oe_rd N) (F := F) e 0
    exact ⟨b, Nat.lt_of_le_of_lt w b, oe_up_le e b w, K'⟩
  · intro s Z R hE h
    exact H s Z R hE.2 hE.1 h
theorem oe_puC {m A C N B Z P : Nat} {F : Nat → Nat} {s : St2} {post : St2 → Prop} {t : Nat} {k k' : Nat → Bool} (h : oe_M m A C N B Z (oe_rd P) F s) (hR : ∀ y, oe_rd P y ≤ oe_rd Z y) (ht : t < 16)
    (K : oe_pz (oe_rd A) (oe_rd C) (oe_rd N) k 40 t Z = true) (K' : oe_pr (oe_rd A) (oe_rd C) (oe_rd N) F k' 40 t P = true)
    (H : ∀ s Z P, k Z = true → k' P = true → (∀ y, oe_rd P y ≤ oe_rd Z y) → oe_M m A C N B Z (oe_rd P) F s → post s) : wpX_pullUp post s (nI t) := by
  refine oe_m_pu (fun n t Z R => ∃ P, R = oe_rd P ∧ (∀ y, oe_rd P y ≤ oe_rd Z y) ∧ oe_pz (oe_rd A) (oe_rd C) (oe_rd N) k n t Z = true ∧ oe_pr (oe_rd A) (oe_rd C) (oe_rd N) F k' n t P = true) (fun Z R => ∃ P, R = oe_rd P ∧ (∀ y, oe_rd P y ≤ oe_rd Z y) ∧ k Z = true ∧ k' P = true) ?_ ?_ h ht ⟨P, rfl, hR, K, K'⟩ ?_
  · intro n t Z R _ h0 hI
    obtain ⟨P, e, hP, K, L⟩ := hI
    obtain ⟨b, K'⟩ := oe_pz_S h0 K
    obtain ⟨d, L'⟩ := oe_pr_S h0 L
    have w := oe_vw_le (C := oe_rd C) (N := oe_rd N) (F := F) hP t
    rw [e]
    refine ⟨b, d, _, (oe_rw P t d).symm, ?_, K', L'⟩
    rw [oe_rw P t d]
    exact oe_up_le hP b w
  · intro n t Z R h0 hI
    obtain ⟨P, e, hP, K, L⟩ := hI
    obtain ⟨b, K'⟩ := oe_pz_E h0 K
    obtain ⟨d, L'⟩ := oe_pr_E h0 L
    have w := oe_vw_le (C := oe_rd C) (N := oe_rd N) (F := F) hP 0
    rw [e]
    refine ⟨b, d, _, (oe_rw P 0 d).symm, ?_, K', L'⟩
    rw [oe_rw P 0 d]
    exact oe_up_le hP b w
  · intro s Z R hE h
    obtain ⟨P, e, hP, K, L⟩ := hE
    rw [e] at h
    exact H s Z P K L hP h
end
section
/-! The walk: link, unlink, fresh, add, fold, moveUnder, reveal. -/
theorem oe_Ar_wr2 {a : Nat → Int32} {P : Nat} (h : oe_Ar a (oe_rd P)) {i y : Int32} {x v : Nat} (hi : i = nI x) (hy : y = nI v) (hx : x < 16) (hv : v < 16) : oe_Ar (upd a i.toNatClampNeg y) (oe_rd (oe_wr P x v)) := by
  rw [hi, hy]
  exact oe_Ar_wr h hx hv
theorem oe_u2E {A C N B Z x p b : Nat} {k : Nat → Nat → Nat → Nat → Bool} : oe_u2 A C N B Z x p b k = oe_pz (oe_rd A) (oe_rd C) (oe_rd N) (fun Z' => k C N (if oe_rd N x = 0 then B else oe_wr B (oe_rd N x) b) Z') 40 p Z := by
  unfold oe_u2
  rw [oe_fcE]
  generalize oe_rd N x = h
  cases h with
  | zero => rfl
  | succ h => rfl
theorem oe_w48 {m A C N B Z : Nat} {R F : Nat → Nat} {post : St2 → Prop} {x p : Nat} {k : Nat → Nat → Nat → Nat → Bool} {mk : Int32} {a1 a2 a3 a4 a5 a6 a7 a8 a9 : Nat → Int32}
    (h : oe_M m A C N B Z R F (mk, a1, a2, a3, a4, a5, a6, a7, a8, a9)) (hR : ∀ y, R y ≤ oe_rd Z y) (hx : x < 16) (hp : p < 16) (K : oe_u2 A C N B Z x p (oe_rd B x) k = true)
    (H : ∀ s C' N' B' Z' R', k C' N' B' Z' = true → (∀ y, R' y ≤ oe_rd Z' y) → oe_M m A C' N' B' Z' R' F s → post s) : wX_unlink_48 post (nI x) (nI p) mk a1 a2 a3 a4 a5 a6 a7 a8 a9 := by
  obtain ⟨g0, g1, g2, h3, h4, h5, h6, h7, h8, h9⟩ := h
  dsimp only at g0 g1 g2 h3 h4 h5 h6 h7 h8 h9
  rw [oe_u2E] at K
  have b6 := oe_rd_lt N x
  have b7 := oe_rd_lt B x
  unfold wX_unlink_48
  refine ⟨pk_in x 41 (by omega), pk_eq (oe_rd N x) 0 (fun z => ?_) (fun z => ⟨pk_in x 41 (by omega), pk_in x 41 (by omega), pk_in (oe_rd N x) 41 (by omega) (oe_g h6 hx), nm_e ?_⟩) (oe_g h6 hx)⟩
  · rw [if_pos z] at K
    unfold wX_unlink_74
    refine oe_puB ⟨g0, g1, g2, h3, h4, h5, h6, h7, h8, h9⟩ hR hp K (fun s Z' R' e1 e2 e3 => ?_)
    obtain ⟨mk', b1, b2, b3, b4, b5, b6, b7, b8, b9⟩ := s
    exact H _ _ _ _ _ _ e1 e2 e3
  · rw [if_neg z] at K
    unfold wX_unlink_74
    refine oe_puB ⟨g0, g1, g2, h3, h4, h5, h6, oe_Ar_wr2 h7 (oe_g h6 hx) (oe_g h7 hx) b6 b7, h8, h9⟩ hR hp K (fun s Z' R' e1 e2 e3 => ?_)
    obtain ⟨mk', b1, b2, b3, b4, b5, b6, b7, b8, b9⟩ := s
    exact H _ _ _ _ _ _ e1 e2 e3
theorem oe_m_ul {m A C N B Z : Nat} {R F : Nat → Nat} {s : St2} {post : St2 → Prop} {x : Nat} {k : Nat → Nat → Nat → Nat → Bool}
    (h : oe_M m A C N B Z R F s) (hR : ∀ y, R y ≤ oe_rd Z y) (hx : x < 16) (K : oe_ul A C N B Z x k = true)
    (H : ∀ s C' N' B' Z' R', k C' N' B' Z' = true → (∀ y, R' y ≤ oe_rd Z' y) → oe_M m A C' N' B' Z' R' F s → post s) : wpX_unlink post s (nI x) := by
  obtain ⟨mk, a1, a2, a3, a4, a5, a6, a7, a8, a9⟩ := s
  obtain ⟨g0, g1, g2, h3, h4, h5, h6, h7, h8, h9⟩ := h
  dsimp only at g0 g1 g2 h3 h4 h5 h6 h7 h8 h9
  have b4 := oe_rd_lt A x
  have b6 := oe_rd_lt N x
  have b7 := oe_rd_lt B x
  unfold oe_ul at K
  rw [oe_fcE, oe_fcE] at K
  refine ⟨pk_in x 41 (by omega), nm_r (oe_g h4 hx) ⟨pk_in x 41 (by omega), pk_eq (oe_rd B x) 0 (fun z => ⟨pk_in x 41 (by omega), pk_in (oe_rd A x) 41 (by omega), nm_e ?_⟩) (fun z => ⟨pk_in x 41 (by omega), pk_in x 41 (by omega), pk_in (oe_rd B x) 41 (by omega) (oe_g h7 hx), nm_e ?_⟩) (oe_g h7 hx)⟩⟩
  · have K' : oe_u2 A (oe_wr C (oe_rd A x) (oe_rd N x)) N B Z x (oe_rd A x) (oe_rd B x) k = true := by
      rw [z] at K ⊢
      have K2 : oe_fc (oe_wr C (oe_rd A x) (oe_rd N x)) (fun C1 => oe_u2 A C1 N B Z x (oe_rd A x) 0 k) = true := K
      rw [oe_fcE] at K2
      exact K2
    exact oe_w48 ⟨g0, g1, g2, h3, h4, oe_Ar_wr2 h5 rfl (oe_g h6 hx) b4 b6, h6, h7, h8, h9⟩ hR hx b4 K' H
  · have K' : oe_u2 A C (oe_wr N (oe_rd B x) (oe_rd N x)) B Z x (oe_rd A x) (oe_rd B x) k = true := by
      generalize oe_rd B x = b at K z ⊢
      cases b with
      | zero => exact absurd rfl z
      | succ b =>
        have K2 : oe_fc (oe_wr N (b + 1) (oe_rd N x)) (fun N1 => oe_u2 A C N1 B Z x (oe_rd A x) (b + 1) k) = true := K
        rw [oe_fcE] at K2
        exact K2
    exact oe_w48 ⟨g0, g1, g2, h3, h4, h5, oe_Ar_wr2 h6 (oe_g h7 hx) (oe_g h6 hx) b7 b6, h7, h8, h9⟩ hR hx b4 K' H
/-- behind x where it is put -/
def oe_hh (C N p s : Nat) : Nat := if s = 0 then oe_rd C p else oe_rd N s
theorem oe_lkE {A C N B Z x p s : Nat} {k : Nat → Nat → Nat → Nat → Nat → Bool} (K : oe_lk A C N B Z x p s k = true) :
    (s = 0 → oe_pz (oe_rd (oe_wr A x p)) (oe_rd (oe_wr C p x)) (oe_rd (oe_wr N x (oe_hh C N p s))) (fun Z' => k (oe_wr A x p) (oe_wr C p x) (oe_wr N x (oe_hh C N p s)) (if oe_hh C N p s = 0 then oe_wr B x s else oe_wr (oe_wr B x s) (oe_hh C N p s) x) Z') 40 p Z = true)
    ∧ (s ≠ 0 → oe_pz (oe_rd (oe_wr A x p)) (oe_rd C) (oe_rd (oe_wr (oe_wr N x (oe_hh C N p s)) s x)) (fun Z' => k (oe_wr A x p) C (oe_wr (oe_wr N x (oe_hh C N p s)) s x) (if oe_hh C N p s = 0 then oe_wr B x s else oe_wr (oe_wr B x s) (oe_hh C N p s) x) Z') 40 p Z = true) := by
  have e1 : Nat.rec (motive := fun _ => Nat) (oe_rd C p) (fun s' _ => oe_rd N (Nat.succ s')) s = oe_hh C N p s := by
    unfold oe_hh
    cases s with
    | zero => rfl
    | succ s => rfl
  have e2 : ∀ B1 h : Nat, Nat.rec (motive := fun _ => Nat) B1 (fun h' _ => oe_wr B1 (Nat.succ h') x) h = if h = 0 then B1 else oe_wr B1 h x := by
    intro B1 h
    cases h with
    | zero => rfl
    | succ h => rfl
  unfold oe_lk at K
  simp only [oe_fcE] at K
  rw [e1, e2] at K
  generalize oe_hh C N p s = g at K ⊢
  cases s with
  | zero => exact ⟨fun _ => K, fun z => absurd rfl z⟩
  | succ s => exact ⟨fun z => absurd z (by omega), fun _ => K⟩
theorem oe_m_lk {m A C N B Z : Nat} {R F : Nat → Nat} {u : St2} {post : St2 → Prop} {x p s : Nat} {k : Nat → Nat → Nat → Nat → Nat → Bool}
    (h : oe_M m A C N B Z R F u) (hx : x < 16) (hp : p < 16) (hs : s < 16) (K : oe_lk A C N B Z x p s k = true)
    (H : ∀ u' A' C' N' B' post', oe_M m A' C' N' B' Z R F u' → oe_pz (oe_rd A') (oe_rd C') (oe_rd N') (fun Z' => k A' C' N' B' Z') 40 p Z = true → (∀ v, post v → post' v) → wpX_pullUp post' u' (nI p)) : wpX_link post u (nI x) (nI p) (nI s) := by
  obtain ⟨mk, a1, a2, a3, a4, a5, a6, a7, a8, a9⟩ := u
  obtain ⟨g0, g1, g2, h3, h4, h5, h6, h7, h8, h9⟩ := h
  dsimp only at g0 g1 g2 h3 h4 h5 h6 h7 h8 h9
  obtain ⟨K0, K1⟩ := oe_lkE K
  have bc := oe_rd_lt C p
  have bn := oe_rd_lt N s
  have bg : oe_hh C N p s < 16 := by
    unfold oe_hh
    by_cases e : s = 0
    · rw [if_pos e]; exact bc
    · rw [if_neg e]; exact bn
  have W : ∀ (v5 v6 : Nat → Int32) (C' N' : Nat), oe_Ar v5 (oe_rd C') → oe_Ar v6 (oe_rd N') →
      oe_pz (oe_rd (oe_wr A x p)) (oe_rd C') (oe_rd N') (fun Z' => k (oe_wr A x p) C' N' (if oe_hh C N p s = 0 then oe_wr B x s else oe_wr (oe_wr B x s) (oe_hh C N p s) x) Z') 40 p Z = true →
      wX_link_64 post (nI x) (nI p) (nI (oe_hh C N p s)) mk a1 a2 a3 (upd a4 (nI x).toNatClampNeg (nI p)) v5 v6 (upd a7 (nI x).toNatClampNeg (nI s)) a8 a9 := by
    intro v5 v6 C' N' k5 k6 L
    unfold wX_link_64
    refine pk_eq (oe_hh C N p s) 0 (fun z => ?_) (fun z => ⟨pk_in (oe_hh C N p s) 41 (by omega), nm_e ?_⟩)
    · rw [if_pos z] at L
      unfold wX_link_77
      exact H _ _ _ _ _ _ ⟨g0, g1, g2, h3, oe_Ar_wr h4 hx hp, k5, k6, oe_Ar_wr h7 hx hs, h8, h9⟩ L (fun v hv => by obtain ⟨mk', b1, b2, b3, b4, b5, b6, b7, b8, b9⟩ := v; exact hv)
    · rw [if_neg z] at L
      unfold wX_link_77
      exact H _ _ _ _ _ _ ⟨g0, g1, g2, h3, oe_Ar_wr h4 hx hp, k5, k6, oe_Ar_wr (oe_Ar_wr h7 hx hs) bg hx, h8, h9⟩ L (fun v hv => by obtain ⟨mk', b1, b2, b3, b4, b5, b6, b7, b8, b9⟩ := v; exact hv)
  have V : ∀ z0 : Int32, z0 = nI (oe_hh C N p s) → wX_link_33 post (nI x) (nI p) (nI s) z0 mk a1 a2 a3 (upd a4 (nI x).toNatClampNeg (nI p)) a5 a6 (upd a7 (nI x).toNatClampNeg (nI s)) a8 a9 := by
    intro z0 e
    subst e
    unfold wX_link_33
    refine ⟨pk_in x 41 (by omega), nm_e (pk_eq s 0 (fun z => ⟨pk_in p 41 (by omega), nm_e ?_⟩) (fun z => ⟨pk_in s 41 (by omega), nm_e ?_⟩))⟩
    · exact W _ _ _ _ (oe_Ar_wr h5 hp hx) (oe_Ar_wr h6 hx bg) (K0 z)
    · exact W _ _ _ _ h5 (oe_Ar_wr (oe_Ar_wr h6 hx bg) hs hx) (K1 z)
  refine ⟨pk_in x 41 (by omega), nm_e ⟨pk_in x 41 (by omega), nm_e (pk_eq s 0 (fun z => ⟨pk_in p 41 (by omega), V _ ?_⟩) (fun z => ⟨pk_in s 41 (by omega), V _ ?_⟩))⟩⟩
  · rw [oe_g h5 hp]
    unfold oe_hh
    rw [if_pos z]
  · rw [oe_g h6 hs]
    unfold oe_hh
    rw [if_neg z]
/-! fresh -/
theorem oe_m_fresh {m A C N B Z : Nat} {s : St2} {post : Int32 → St2 → Prop} (h : oe_M m A C N B Z (oe_rd Z) (fun _ => 0) s) (hm : m < 15)
    (H : ∀ s', oe_M (m + 1) A (oe_wr C (m + 1) 0) N B (oe_wr Z (m + 1) 1) (oe_rd (oe_wr Z (m + 1) 1)) (fun _ => 0) s' → post (nI (m + 1)) s') : wpX_fresh post s := by
  obtain ⟨mk, a1, a2, a3, a4, a5, a6, a7, a8, a9⟩ := s
  obtain ⟨g0, g1, g2, h3, h4, h5, h6, h7, h8, h9⟩ := h
  dsimp only at g0 g1 g2 h3 h4 h5 h6 h7 h8 h9
  have hv : oe_vz (oe_rd (oe_wr C (m + 1) 0)) (oe_rd N) (oe_rd Z) (m + 1) = 1 := by
    rw [oe_vz_E, oe_ow_s (by omega), oe_rw C (m + 1) (by omega), oe_up_s, oe_sm_z]
  have L : ∀ k, k ≤ 40 → ∀ x, (k ≤ m → x = m + 1) → wX_fresh_5 post mk a1 a2 a3 a4 a5 a6 a7 a8 a9 (k + 1) (nI x) (nI k) := by
    intro k
    induction k with
    | zero =>
      intro _ x hx
      have hx := hx (by omega)
      subst hx
      refine pk_le 0 0 (fun _ => ⟨pk_in (m + 1) 41 (by omega), nm_e ⟨pk_in (m + 1) 41 (by omega), nm_e (nm_e ⟨pk_in (m + 1) 41 (by omega), nm_e ⟨pk_in (m + 1) 41 (by omega), nm_e ?_⟩⟩)⟩⟩) (fun z => absurd z (by omega))
      have M1 : oe_M (m + 1) A (oe_wr C (m + 1) 0) N B Z (oe_rd Z) (fun _ => 0) (mk + 1, upd a1 (nI (m + 1)).toNatClampNeg 1, upd a2 (nI (m + 1)).toNatClampNeg mk, upd a3 (nI (m + 1)).toNatClampNeg 0, a4, upd a5 (nI (m + 1)).toNatClampNeg 0, a6, a7, a8, a9) := by
        refine ⟨?_, ?_, ?_, ?_, h4, oe_Ar_wr2 h5 rfl rfl (by omega) (by omega), h6, h7, h8, h9⟩
        · show mk + 1 = nI (m + 1)
          rw [g0, nI_1]
        · intro j hj
          show upd a1 (nI (m + 1)).toNatClampNeg 1 j = _
          rw [nI_clamp (by omega)]
          by_cases e : j = m + 1
          · rw [e, pk_us, if_pos (by omega)]
            rfl
          · rw [pk_un e, g1 j hj]
            by_cases e2 : 1 ≤ j ∧ j ≤ m
            · rw [if_pos e2, if_pos (by omega)]
            · rw [if_neg e2, if_neg (by omega)]
        · intro j h1 hj
          show upd a2 (nI (m + 1)).toNatClampNeg mk j = _
          rw [nI_clamp (by omega)]
          by_cases e : j = m + 1
          · rw [e, pk_us, g0]
            rfl
          · rw [pk_un e]
            exact g2 j h1 (by omega)
        · refine oe_Ar_ext (oe_Ar_up h3 (x := m + 1) (v := 0) (by omega) (by omega)) (fun j _ => ?_)
          by_cases e : j = m + 1
          · rw [e, oe_up_s]
          · rw [oe_up_n _ e]
      refine oe_m_pull M1 (by omega) (by rw [hv]; omega) (by rw [oe_vw_0, hv]; omega) (fun s' h' => ?_)
      rw [oe_vw_0, hv, ← oe_rw Z (m + 1) (by omega)] at h'
      obtain ⟨mk', b1, b2, b3, b4, b5, b6, b7, b8, b9⟩ := s'
      exact H _ h'
    | succ k ih =>
      intro hk x hx
      refine pk_le (k + 1) 0 (fun z => absurd z (by omega)) (fun _ => ⟨pk_in (k + 1) 41 (by omega), ?_⟩)
      rw [nI_clamp (show k + 1 < 2 ^ 31 by omega), g1 (k + 1) hk]
      by_cases e : 1 ≤ k + 1 ∧ k + 1 ≤ m
      · rw [if_pos e]
        exact br_f (by decide) (nm_r (pk_m1 k) (ih (by omega) x (fun _ => hx e.2)))
      · rw [if_neg e]
        exact br_t rfl (nm_r (pk_m1 k) (ih (by omega) (k + 1) (fun z => by omega)))
  exact ⟨41, L 40 (by omega) 1 (fun z => absurd z (by omega))⟩
end
section
/-! The walk: add, fold, moveUnder, reveal. -/
theorem oe_w65 {A : Nat → Nat} {post : Int32 → St2 → Prop} {l : Nat} (hl : l < 100) {mk : Int32} {a1 a2 a3 a4 a5 a6 a7 a8 a9 : Nat → Int32} (h4 : oe_Ar a4 A) : ∀ n p, p < 16 → l + n < 1000 →
    (∀ f, wX_add_65 post (nI l) mk a1 a2 a3 a4 a5 a6 a7 a8 a9 (f + 1) (nI (oe_cm A n p)) (nI l + (-1))) → wX_add_65 post (nI l) mk a1 a2 a3 a4 a5 a6 a7 a8 a9 (n + 1) (nI p) (nI (l + n) + (-1)) := by
  intro n
  induction n with
  | zero => intro p _ _ H; exact H 0
  | succ n ih =>
    intro p hp hn H
    refine br_f (fun z => absurd ((oe_m1_lt (by omega) (by omega)).mp z) (by omega)) ⟨pk_in p 41 (by omega), nm_r (oe_g h4 hp) (nm_r (show nI (l + (n + 1)) + (-1) + (-1) = nI (l + n) + (-1) from congrArg (fun y => y + (-1)) (pk_m1 (l + n))) (ih (A p) (oe_gb h4 hp) (by omega) H))⟩
theorem oe_m_add {m A C N B Z : Nat} {s : St2} {post : Int32 → St2 → Prop} {l : Nat} {k : Nat → Nat → Nat → Nat → Nat → Bool} (h : oe_M m A C N B Z (oe_rd Z) (fun _ => 0) s) (hm : m < 8) (hl : l ≤ 7)
    (K : oe_ad m A C N B Z l k = true) (H : ∀ s' A' C' N' B' Z', k A' C' N' B' Z' = true → oe_M (m + 1) A' C' N' B' Z' (oe_rd Z') (fun _ => 0) s' → post (nI m) s') : wpX_add post s (nI l) := by
  have h' := h
  obtain ⟨mk, a1, a2, a3, a4, a5, a6, a7, a8, a9⟩ := s
  obtain ⟨g0, g1, g2, h3, h4, h5, h6, h7, h8, h9⟩ := h'
  dsimp only at g0 g1 g2 h3 h4 h5 h6 h7 h8 h9
  unfold oe_ad at K
  simp only [oe_fcE] at K
  obtain ⟨e0, K⟩ := oe_anE K
  have e0 := oe_bq e0
  obtain ⟨el, K⟩ := oe_anE K
  have e8 : a8 0 = nI m := by rw [← e0]; exact (h8 0 (by omega)).1
  have W : ∀ p0, p0 < 16 → l ≤ oe_lv (oe_rd A) 40 p0 → oe_lk A (oe_wr C (m + 1) 0) N B (oe_wr Z (m + 1) 1) (m + 1) (oe_cm (oe_rd A) (oe_lv (oe_rd A) 40 p0 - l) p0) (oe_lc (oe_rd N) 40 (oe_rd (oe_wr C (m + 1) 0) (oe_cm (oe_rd A) (oe_lv (oe_rd A) 40 p0 - l) p0)) 0) k = true →
      wX_add_46 post (nI l) (nI p0) mk a1 a2 a3 a4 a5 a6 a7 a8 a9 := by
    intro p0 hp0 hl2 K
    have bv : oe_lv (oe_rd A) 40 p0 ≤ 40 := oe_lv_b 40 p0
    have bp : oe_cm (oe_rd A) (oe_lv (oe_rd A) 40 p0 - l) p0 < 16 := oe_cm_b (oe_rd_lt A) _ _ hp0
    unfold wX_add_46
    refine oe_m_lv h hp0 ?_
    rw [oe_m1_p]
    refine pk_le l (oe_lv (oe_rd A) 40 p0) (fun _ => ⟨oe_lv (oe_rd A) 40 p0 - l + 1, ?_⟩) (fun z => absurd z (by omega))
    have t := oe_w65 (post := post) (l := l) (mk := mk) (a1 := a1) (a2 := a2) (a3 := a3) (a5 := a5) (a6 := a6) (a7 := a7) (a8 := a8) (a9 := a9) (by omega) h4 (oe_lv (oe_rd A) 40 p0 - l) p0 hp0 (by omega)
    rw [show l + (oe_lv (oe_rd A) 40 p0 - l) = oe_lv (oe_rd A) 40 p0 by omega] at t
    refine t (fun f => ?_)
    generalize oe_cm (oe_rd A) (oe_lv (oe_rd A) 40 p0 - l) p0 = p at K bp ⊢
    refine br_t ((oe_m1_lt (by omega) (by omega)).mpr (by omega)) ?_
    refine oe_m_fresh h (by omega) (fun s1 h1 => ?_)
    obtain ⟨mk', b1, b2, b3, b4, b5, b6, b7, b8, b9⟩ := s1
    refine oe_m_lc h1 bp ?_
    refine oe_m_lk h1 (by omega) bp (oe_lc_b (oe_rd_lt N) 40 _ 0 (oe_rd_lt _ _) (by omega)) K (fun u' A' C' N' B' post' h2 K2 HP => ?_)
    refine oe_puA h2 bp K2 (fun s3 Z3 e3 h3 => HP _ ?_)
    obtain ⟨mk3, d1, d2, d3, d4, d5, d6, d7, d8, d9⟩ := s3
    refine ⟨pk_in (m + 1) 41 (by omega), ?_⟩
    have t2 : d2 (m + 1) = nI (m + 1 - 1) := h3.2.2.1 (m + 1) (by omega) (by omega)
    rw [nI_clamp (by omega), t2]
    exact H _ _ _ _ _ _ e3 h3
  refine pk_lt l 0 (fun z => absurd z (by omega)) (fun _ => pk_le l 7 (fun _ => ?_) (fun z => absurd z (by omega)))
  refine pk_eq m 40 (fun z => absurd z (by omega)) (fun _ => br_t rfl ?_) e8
  refine pk_le m 0 (fun z => ?_) (fun z => ?_) e8
  · have hm0 : m = 0 := by omega
    subst hm0
    exact W 0 (by omega) (oe_bl' el) K
  · obtain ⟨m', rfl⟩ : ∃ m', m = m' + 1 := ⟨m - 1, by omega⟩
    rw [e8, nI_pred]
    exact oe_m_na h (by omega) (W _ (oe_na_b (oe_rd_lt C) (oe_rd_lt N) 80 _ _ (oe_rd_lt C 0)) (oe_bl' el) K)
theorem oe_F1 (x : Nat) : oe_rd (oe_wr 0 x 1) = oe_up (fun _ => 0) x 1 := by
  rw [oe_rw 0 x (by omega), show oe_rd 0 = fun _ => 0 from funext oe_rd0]
theorem oe_m_fold {m A C N B Z : Nat} {s : St2} {post : Int32 → St2 → Prop} {f : Nat} {k' : Nat → Bool} (h : oe_M m A C N B Z (oe_rd Z) (fun _ => 0) s) (hf : f < oe_rd Z 0)
    (e : oe_na (oe_rd C) (oe_rd N) (oe_rd Z) 80 (oe_rd C 0) f = f + 1) (hf2 : f < 15) (K : oe_pz (oe_rd A) (oe_rd C) (oe_rd N) (fun Z' => Nat.beq Z' Z) 40 (f + 1) Z = true)
    (K' : oe_pr (oe_rd A) (oe_rd C) (oe_rd N) (oe_rd (oe_wr 0 (f + 1) 1)) k' 40 (f + 1) Z = true)
    (H : ∀ s' P r, k' P = true → (∀ y, oe_rd P y ≤ oe_rd Z y) → oe_M m A C N B Z (oe_rd P) (oe_rd (oe_wr 0 (f + 1) 1)) s' → post r s') : wpX_fold post s (nI f) 1 := by
  have h' := h
  obtain ⟨mk, a1, a2, a3, a4, a5, a6, a7, a8, a9⟩ := s
  obtain ⟨g0, g1, g2, h3, h4, h5, h6, h7, h8, h9⟩ := h'
  dsimp only at g0 g1 g2 h3 h4 h5 h6 h7 h8 h9
  unfold wpX_fold
  dsimp only
  refine oe_m_bad h hf ?_
  refine br_t rfl ?_
  refine oe_m_na (r := f) h (by omega) ?_
  rw [e]
  refine ⟨pk_in (f + 1) 41 (by omega), br_t (by rw [oe_g h3 (show f + 1 < 16 by omega)]; rfl) ?_⟩
  unfold wX_fold_30
  refine br_f (by decide) ?_
  unfold wX_fold_46
  refine ⟨pk_in (f + 1) 41 (by omega), nm_e ?_⟩
  have h3' : oe_Ar (upd a3 (nI (f + 1)).toNatClampNeg (vp_nar .boolean 1)) (oe_rd (oe_wr 0 (f + 1) 1)) := by
    rw [oe_F1, show vp_nar .boolean 1 = nI 1 by decide]
    exact oe_Ar_up h3 (by omega) (by omega)
  refine oe_puC (m := m) (A := A) (C := C) (N := N) (B := B) (Z := Z) (P := Z) ⟨g0, g1, g2, h3', h4, h5, h6, h7, h8, h9⟩ (fun y => Nat.le_refl _) (by omega) K K' (fun s' Z' P e1 e2 e3 h' => ?_)
  rw [oe_bq e1] at e3 h'
  obtain ⟨mk', b1, b2, b3, b4, b5, b6, b7, b8, b9⟩ := s'
  exact H _ _ _ e2 e3 h'
/-! moveUnder: into its own branch; elsewhere -/
theorem oe_m_mv0 {m A C N B Z : Nat} {R F : Nat → Nat} {s : St2} {post : Int32 → St2 → Prop} {i j : Nat} (h : oe_M m A C N B Z R F s) (hi : i < oe_rd Z 0) (hj : j < oe_rd Z 0) (bi : i < 15) (bj : j < 15)
    (ei : oe_na (oe_rd C) (oe_rd N) (oe_rd Z) 80 (oe_rd C 0) i = i + 1) (ej : oe_na (oe_rd C) (oe_rd N) (oe_rd Z) 80 (oe_rd C 0) j = j + 1)
    (eb : oe_ib (oe_rd A) (i + 1) 40 (j + 1) = true) (H : post (-4) s) : wpX_moveUnder post s (nI i) (nI j) := by
  obtain ⟨mk, a1, a2, a3, a4, a5, a6, a7, a8, a9⟩ := s
  unfold wpX_moveUnder
  dsimp only
  refine oe_m_bad h hi ?_
  refine br_t rfl ?_
  refine oe_m_bad h hj ?_
  refine br_t rfl ?_
  refine oe_m_na (r := i) h (by omega) ?_
  rw [ei]
  refine oe_m_na (r := j) h (by omega) ?_
  rw [ej]
  refine oe_m_ib h (by omega) (by omega) ?_
  rw [eb]
  exact br_f (by decide) H
theorem oe_m_mv1 {m A C N B Z : Nat} {R F : Nat → Nat} {s : St2} {post : Int32 → St2 → Prop} {i j d u v : Nat} {k : Nat → Nat → Nat → Nat → Bool} {k2 : Nat → Nat → Nat → Nat → Nat → Bool}
    (h : oe_M m A C N B Z R F s) (hR : ∀ y, R y ≤ oe_rd Z y) (hi : i < oe_rd Z 0) (hj : j < oe_rd Z 0) (bi : i < 15) (bj : j < 15)
    (ei : oe_na (oe_rd C) (oe_rd N) (oe_rd Z) 80 (oe_rd C 0) i = i + 1) (ej : oe_na (oe_rd C) (oe_rd N) (oe_rd Z) 80 (oe_rd C 0) j = j + 1)
    (eb : oe_ib (oe_rd A) (i + 1) 40 (j + 1) = false) (eu : oe_lv (oe_rd A) 40 (i + 1) = u + 1) (ev : oe_lv (oe_rd A) 40 (j + 1) = v + 1)
    (ed : oe_dp (oe_rd A) (oe_rd C) (oe_rd N) (oe_rd Z (i + 1)) (i + 1) 0 = d) (h1 : u ≤ d) (h2 : d + v + 1 ≤ 7 + u)
    (K : oe_ul A C N B Z (i + 1) k = true) (K2 : ∀ C1 N1 B1 Z1, k C1 N1 B1 Z1 = true → oe_lk A C1 N1 B1 Z1 (i + 1) (j + 1) (oe_lc (oe_rd N1) 40 (oe_rd C1 (j + 1)) 0) k2 = true)
    (H : ∀ s' A' C' N' B' Z' R', k2 A' C' N' B' Z' = true → (∀ y, R' y ≤ oe_rd Z' y) → oe_M m A' C' N' B' Z' R' F s' → post (nI (oe_po (oe_rd A') (oe_rd B') (oe_rd Z') 80 (i + 1) 0)) s') : wpX_moveUnder post s (nI i) (nI j) := by
  obtain ⟨mk, a1, a2, a3, a4, a5, a6, a7, a8, a9⟩ := s
  unfold wpX_moveUnder
  dsimp only
  refine oe_m_bad h hi ?_
  refine br_t rfl ?_
  refine oe_m_bad h hj ?_
  refine br_t rfl ?_
  refine oe_m_na (r := i) h (by omega) ?_
  rw [ei]
  refine oe_m_na (r := j) h (by omega) ?_
  rw [ej]
  refine oe_m_ib h (by omega) (by omega) ?_
  rw [eb]
  refine br_t rfl ?_
  refine oe_m_lv h (by omega) ?_
  rw [ev]
  refine oe_m_lv h (by omega) ?_
  rw [eu, oe_m1_p, pk_m1]
  refine nm_e ?_
  refine oe_m_dp h (by omega) ?_
  rw [ed, oe_asb (show u ≤ d + (v + 1) by omega)]
  refine pk_le (d + (v + 1) - u) 7 (fun _ => ?_) (fun z => absurd z (by omega))
  refine oe_m_ul h hR (by omega) K (fun s1 C1 N1 B1 Z1 R1 e1 r1 h1 => ?_)
  obtain ⟨mk', b1, b2, b3, b4, b5, b6, b7, b8, b9⟩ := s1
  dsimp only
  refine oe_m_lc h1 (by omega) ?_
  refine oe_m_lk h1 (by omega) (by omega) (oe_lc_b (oe_rd_lt N1) 40 _ 0 (oe_rd_lt _ _) (by omega)) (K2 _ _ _ _ e1) (fun u' A' C' N' B' post' h2 L2 HP => ?_)
  refine oe_puB h2 r1 (by omega) L2 (fun s3 Z3 R3 e3 r3 h3 => HP _ ?_)
  obtain ⟨mk3, d1, d2, d3, d4, d5, d6, d7, d8, d9⟩ := s3
  exact oe_m_po h3 (by omega) (H _ _ _ _ _ _ _ e3 r3 h3)
/-! reveal: at most one node is folded -/
def oe_iF (f0 c : Nat) (F : Nat → Nat) : Prop := (c = 0 ∧ ∀ k, k < 16 → k ≠ f0 → F k = 0) ∨ (c = 1 ∧ ∀ k, k < 16 → F k = 0)
theorem oe_w29 {A : Nat → Nat} {post : Int32 → St2 → Prop} {x f0 : Nat} {mk : Int32} {a1 a2 a4 a5 a6 a7 a8 a9 : Nat → Int32} (h4 : oe_Ar a4 A) : ∀ n t c i W (F : Nat → Nat) (a3 : Nat → Int32), i + n = 40 → t < 16 → oe_Ar a3 F → oe_iF f0 c F → (∀ k, k < 16 → oe_rd W k ≠ 0 → F k = 0) →
    (∀ c' (F' : Nat → Nat) (b3 : Nat → Int32), c' ≤ 1 → oe_Ar b3 F' → (∀ k, k < 16 → oe_rd (oe_ms A n t W) k ≠ 0 → F' k = 0) → wX_reveal_77 post (nI x) (nI c') mk a1 a2 b3 a4 a5 a6 a7 a8 a9) →
    wX_reveal_29 post (nI x) mk (n + 1) (nI c) (nI t) (nI i) a1 a2 a3 a4 a5 a6 a7 a8 a9 := by
  have cb : ∀ {c : Nat} {F : Nat → Nat}, oe_iF f0 c F → c ≤ 1 := by
    intro c F hc
    rcases hc with e | e
    · have := e.1; omega
    · have := e.1; omega
  intro n
  induction n with
  | zero =>
    intro t c i W F a3 hi ht h3 hc hW H
    exact pk_le 40 i (fun _ => H c F a3 (cb hc) h3 hW) (fun z => absurd z (by omega))
  | succ n ih =>
    intro t c i W F a3 hi ht h3 hc hW H
    have b3 := oe_gb h3 ht
    have hc1 := cb hc
    refine pk_le 40 i (fun z => absurd z (by omega)) (fun _ => pk_eq t 0 (fun z => ?_) (fun z => ?_))
    · refine H c F a3 hc1 h3 ?_
      rw [z, oe_ms_z]
      exact hW
    · rw [oe_ms_s z] at H
      have hW' : ∀ k, k < 16 → oe_rd (oe_wr W t 1) k ≠ 0 → oe_up F t 0 k = 0 := by
        intro k hk e
        by_cases ek : k = t
        · rw [ek, oe_up_s]
        · rw [oe_rw W t (by omega), oe_up_n _ ek] at e
          rw [oe_up_n _ ek]
          exact hW k hk e
      have S : ∀ c', oe_iF f0 c' (oe_up F t 0) → wX_reveal_54 post (wX_reveal_29 post (nI x) mk (n + 1)) (nI x) (nI c') (nI t) (nI i) mk a1 a2 a3 a4 a5 a6 a7 a8 a9 := by
        intro c' hc'
        unfold wX_reveal_54
        exact ⟨pk_in t 41 (by omega), nm_e ⟨pk_in t 41 (by omega), nm_r (oe_g h4 ht) (nm_r (nI_1 i) (ih _ _ _ _ _ _ (by omega) (oe_gb h4 ht) (oe_Ar_up (v := 0) h3 ht (by decide)) hc' hW' H))⟩⟩
      refine ⟨pk_in t 41 (by omega), pk_eq (F t) 0 (fun z2 => S c ?_) (fun z2 => nm_r (nI_1 c) (S (c + 1) ?_)) (oe_g h3 ht)⟩
      · rcases hc with e | e
        · refine Or.inl ⟨e.1, fun k hk hk0 => ?_⟩
          by_cases ek : k = t
          · rw [ek, oe_up_s]
          · rw [oe_up_n _ ek]; exact e.2 k hk hk0
        · refine Or.inr ⟨e.1, fun k hk => ?_⟩
          by_cases ek : k = t
          · rw [ek, oe_up_s]
          · rw [oe_up_n _ ek]; exact e.2 k hk
      · rcases hc with e | e
        · refine Or.inr ⟨by have := e.1; omega, fun k hk => ?_⟩
          by_cases ek : k = t
          · rw [ek, oe_up_s]
          · rw [oe_up_n _ ek]
            refine e.2 k hk (fun e0 => ?_)
            exact z2 (e.2 t ht (fun e1 => ek (by rw [e0, e1])))
        · exact absurd (e.2 t ht) z2
theorem oe_m_rv {m A C N B Z : Nat} {R F : Nat → Nat} {s : St2} {post : Int32 → St2 → Prop} {i x f0 : Nat} (h : oe_M m A C N B Z R F s) (hR : ∀ y, R y ≤ oe_rd Z y) (hi : i < oe_rd Z 0)
    (hF : ∀ k, k < 16 → k ≠ f0 → F k = 0) (e : oe_na (oe_rd C) (oe_rd N) (oe_rd Z) 80 (oe_rd C 0) i = x) (hx : x < 16)
    (K : oe_pz (oe_rd A) (oe_rd C) (oe_rd N) (fun Z' => Nat.beq Z' Z) 40 x Z = true)
    (H : ∀ s' R' F' c, c ≤ 1 → (∀ k, k < 16 → oe_rd (oe_ms (oe_rd A) 40 (oe_rd A x) 0) k ≠ 0 → F' k = 0) → oe_M m A C N B Z R' F' s' → post (nI c) s') : wpX_reveal post s (nI i) := by
  have b := oe_rd_lt Z 0
  have h' := h
  obtain ⟨mk, a1, a2, a3, a4, a5, a6, a7, a8, a9⟩ := s
  obtain ⟨g0, g1, g2, h3, h4, h5, h6, h7, h8, h9⟩ := h'
  dsimp only at g0 g1 g2 h3 h4 h5 h6 h7 h8 h9
  unfold wpX_reveal
  dsimp only
  refine oe_m_bad h hi ?_
  refine br_t rfl ?_
  refine oe_m_na (r := i) h (by omega) ?_
  rw [e]
  refine ⟨pk_in x 41 (by omega), nm_r (oe_g h4 hx) ⟨41, oe_w29 (f0 := f0) h4 40 _ 0 0 0 F a3 (by omega) (oe_rd_lt A x) h3 (Or.inl ⟨rfl, hF⟩) (fun k _ z => absurd (oe_rd0 k) z) (fun c' F' b3 hc k3 hW => ?_)⟩⟩
  unfold wX_reveal_77
  refine oe_puB (m := m) (A := A) (C := C) (N := N) (B := B) (Z := Z) (R := R) (F := F') ⟨g0, g1, g2, k3, h4, h5, h6, h7, h8, h9⟩ hR hx K (fun s3 Z3 R3 e3 r3 h3 => ?_)
  rw [oe_bq e3] at h3
  obtain ⟨mk3, d1, d2, d3, d4, d5, d6, d7, d8, d9⟩ := s3
  exact H _ _ _ _ hc hW h3
end
section
/-! The law's own functions and loops. -/
theorem oe_at_E (L k : Nat) : oe_at L k = L / 2 ^ (3 * k) % 2 ^ 3 := by
  show (L >>> (3 * k)) &&& (2 ^ 3 - 1) = _
  rw [Nat.and_two_pow_sub_one_eq_mod, Nat.shiftRight_eq_div_pow]
theorem oe_at_lt (L k : Nat) : oe_at L k < 8 := by
  rw [oe_at_E]
  exact Nat.mod_lt _ (by decide)
theorem oe_sh : ∀ k, k < 8 → (((3 * nI k) &&& 31).toBitVec.smod 32).toNat = 3 * k := by decide +kernel
theorem oe_l_at {post : Int32 → Prop} {L k : Nat} (hL : L < 2 ^ 24) (hk : k < 8) (H : post (nI (oe_at L k))) : wpL_at post () (nI L) (nI k) := by
  unfold wpL_at
  rw [pk_shrN (by omega) _ (3 * k) (oe_sh k hk), pk_andN (Nat.lt_of_le_of_lt (Nat.div_le_self _ _) (by omega)) 3 (by decide), ← oe_at_E]
  exact H
theorem oe_ed_s (L i n e : Nat) : oe_ed L i (n + 1) e = oe_ed L i n (if n + 1 ≤ i then e else if oe_at L (n + 1) ≤ oe_at L i then n + 1 else e) := by
  show oe_fn (cond (Nat.ble (n + 1) i) e (cond (Nat.ble (oe_at L (n + 1)) (oe_at L i)) (n + 1) e)) (oe_ed L i n) = _
  rw [oe_fnE, oe_cl, oe_cl]
theorem oe_ed_gt {L i : Nat} : ∀ n e, i < e → i < oe_ed L i n e := by
  intro n
  induction n with
  | zero => intro e h; exact h
  | succ n ih =>
    intro e h
    rw [oe_ed_s]
    apply ih
    by_cases e1 : n + 1 ≤ i
    · rw [if_pos e1]; exact h
    · rw [if_neg e1]
      by_cases e2 : oe_at L (n + 1) ≤ oe_at L i
      · rw [if_pos e2]; omega
      · rw [if_neg e2]; exact h
theorem oe_ed_le {L i : Nat} : ∀ n e, n ≤ 7 → e ≤ 8 → oe_ed L i n e ≤ 8 := by
  intro n
  induction n with
  | zero => intro e _ h; exact h
  | succ n ih =>
    intro e hn h
    rw [oe_ed_s]
    apply ih _ (by omega)
    by_cases e1 : n + 1 ≤ i
    · rw [if_pos e1]; exact h
    · rw [if_neg e1]
      by_cases e2 : oe_at L (n + 1) ≤ oe_at L i
      · rw [if_pos e2]; omega
      · rw [if_neg e2]; exact h
theorem oe_w6 {post : Int32 → Prop} {L i : Nat} (hL : L < 2 ^ 24) (hi : i < 8) : ∀ n e, n ≤ 7 → e ≤ 8 → post (nI (oe_ed L i n e)) → wL_end_6 post (nI L) (nI i) (n + 1) (nI e) (nI n) := by
  intro n
  induction n with
  | zero =>
    intro e _ he H
    exact pk_le 0 0 (fun _ => H) (fun z => absurd z (by omega))
  | succ n ih =>
    intro e hn he H
    rw [oe_ed_s] at H
    refine pk_le (n + 1) 0 (fun z => absurd z (by omega)) (fun _ => pk_le (n + 1) i (fun z => nm_r (pk_m1 n) (ih _ (by omega) he ?_)) (fun z => ?_))
    · rw [if_pos z] at H
      exact H
    · rw [if_neg (by omega)] at H
      have b1 := oe_at_lt L (n + 1)
      have b2 := oe_at_lt L i
      refine oe_l_at hL (by omega) ?_
      refine oe_l_at hL hi ?_
      refine pk_lt (oe_at L i) (oe_at L (n + 1)) (fun z2 => nm_r (pk_m1 n) (ih _ (by omega) he ?_)) (fun z2 => nm_r (pk_m1 n) (ih _ (by omega) (by omega) ?_))
      · rw [if_neg (by omega)] at H
        exact H
      · rw [if_pos z2] at H
        exact H
theorem oe_l_end {post : Int32 → Prop} {L i : Nat} (hL : L < 2 ^ 24) (hi : i < 8) (H : post (nI (oe_ed L i 7 8))) : wpL_end post () (nI L) (nI i) :=
  ⟨8, oe_w6 hL hi 7 8 (by omega) (by omega) H⟩
theorem oe_pa_s (L Z i n a q : Nat) : oe_pa L Z i (n + 1) a q = oe_pa L Z i n (a + 1) (if i ≤ a then q else if oe_rd Z (a + 1) + a ≤ i then q else if oe_at L i ≤ oe_at L a then q else a + 1) := by
  show oe_fn (cond (Nat.ble i a) q (cond (Nat.ble (Nat.add (oe_rd Z (a + 1)) a) i) q (cond (Nat.ble (oe_at L i) (oe_at L a)) q (a + 1)))) (fun q' => oe_pa L Z i n (a + 1) q') = _
  rw [oe_fnE, oe_cl, oe_cl, oe_cl]
  rfl
theorem oe_pa_le {L Z i : Nat} : ∀ n a q, a + n = 8 → q ≤ 8 → oe_pa L Z i n a q ≤ 8 := by
  intro n
  induction n with
  | zero => intro a q _ h; exact h
  | succ n ih =>
    intro a q hn h
    rw [oe_pa_s]
    apply ih _ _ (by omega)
    by_cases e1 : i ≤ a
    · rw [if_pos e1]; exact h
    · rw [if_neg e1]
      by_cases e2 : oe_rd Z (a + 1) + a ≤ i
      · rw [if_pos e2]; exact h
      · rw [if_neg e2]
        by_cases e3 : oe_at L i ≤ oe_at L a
        · rw [if_pos e3]; exact h
        · rw [if_neg e3]; omega
theorem oe_asb_le {a b c : Nat} (ha : a < 1000) (hb : b < 1000) (hc : c < 1000) : nI a + (nI b - nI c) ≤ 7 ↔ a + b ≤ 7 + c := by
  have e : nI a + (nI b - nI c) = nI (a + b) - nI c := by
    rw [← nI_add, Int32.sub_eq_add_neg, Int32.sub_eq_add_neg, Int32.add_assoc]
  have e7 : (7 : Int32).toInt = 7 := by decide
  rw [e, Int32.le_iff_toInt_le, pk_sub_toInt (by omega) (by omega), e7]
  omega
section
variable {post : Int32 → St0 → Prop} {mc ms kc ks : Nat} {mk : Int32} {a1 a2 a3 a4 a5 a6 a7 a8 a9 : Nat → Int32} {x9 x11 x12 x15 : Int32} {L Z i : Nat}
/-- the law's search for the parent -/
theorem oe_w255 (hL : L < 2 ^ 24) (hi : i < 8) (hZ : ∀ a, a < 8 → oe_rd Z (a + 1) + a = oe_ed L a 7 8) : ∀ n a q, a + n = 8 →
    (∀ f, wL_lawOf_255 post mc ms (nI L) (nI i) x9 x11 x12 x15 kc ks mk a1 a2 a3 a4 a5 a6 a7 a8 a9 (f + 1) (oe_rc (oe_pa L Z i n a q)) (nI 8)) →
    wL_lawOf_255 post mc ms (nI L) (nI i) x9 x11 x12 x15 kc ks mk a1 a2 a3 a4 a5 a6 a7 a8 a9 (n + 1) (oe_rc q) (nI a) := by
  intro n
  induction n with
  | zero =>
    intro a q ha H
    have e : a = 8 := by omega
    subst e
    exact H 0
  | succ n ih =>
    intro a q ha H
    rw [oe_pa_s] at H
    refine pk_le 8 a (fun z => absurd z (by omega)) (fun _ => pk_le i a (fun z => nm_r (nI_1 a) (ih _ _ (by omega) ?_)) (fun z => ?_))
    · rw [if_pos z] at H
      exact H
    · rw [if_neg (by omega)] at H
      have b0 := oe_ed_le (L := L) (i := a) 7 8 (by omega) (by omega)
      have b1 := oe_at_lt L a
      have b2 := oe_at_lt L i
      refine oe_l_end hL (by omega) ?_
      rw [hZ a (by omega)] at H
      refine pk_le (oe_ed L a 7 8) i (fun z2 => nm_r (nI_1 a) (ih _ _ (by omega) ?_)) (fun z2 => ?_)
      · rw [if_pos z2] at H
        exact H
      · rw [if_neg (by omega)] at H
        refine oe_l_at hL (by omega) ?_
        refine oe_l_at hL hi ?_
        refine pk_le (oe_at L i) (oe_at L a) (fun z3 => nm_r (nI_1 a) (ih _ _ (by omega) ?_)) (fun z3 => nm_r (nI_1 a) (ih _ (a + 1) (by omega) ?_))
        · rw [if_pos z3] at H
          exact H
        · rw [if_neg (by omega)] at H
          exact H
/-- the law's search for a heading that would lie too deep -/
theorem oe_w369 {j z : Nat} (hL : L < 2 ^ 24) (hi : i < 8) (hj : j < 8) (hz : z < 16) (D : Prop) (hD : D → ∀ a, i ≤ a → a < i + z → oe_at L a + (oe_at L j + 1) ≤ 7 + oe_at L i) : ∀ n a c, a + n = 8 → c ≤ 1 → (D → c = 0) →
    (∀ f c', c' ≤ 1 → (D → c' = 0) → wL_lawOf_369 post mc ms (nI L) (nI i) x9 x12 x15 (nI z) (nI (oe_at L j + 1) - nI (oe_at L i)) kc ks mk a1 a2 a3 a4 a5 a6 a7 a8 a9 (f + 1) (nI c') (nI 8)) →
    wL_lawOf_369 post mc ms (nI L) (nI i) x9 x12 x15 (nI z) (nI (oe_at L j + 1) - nI (oe_at L i)) kc ks mk a1 a2 a3 a4 a5 a6 a7 a8 a9 (n + 1) (nI c) (nI a) := by
  intro n
  induction n with
  | zero =>
    intro a c ha hc hc0 H
    have e : a = 8 := by omega
    subst e
    exact H 0 c hc hc0
  | succ n ih =>
    intro a c ha hc hc0 H
    have b1 := oe_at_lt L a
    have b2 := oe_at_lt L i
    have b3 := oe_at_lt L j
    refine pk_le 8 a (fun z => absurd z (by omega)) (fun _ => pk_eq c 0 (fun z0 => ?_) (fun z0 => nm_r (nI_1 a) (ih _ 1 (by omega) (by omega) (fun d => absurd (hc0 d) z0) H)))
    have N0 : ∀ a', a' + n = 8 → wL_lawOf_369 post mc ms (nI L) (nI i) x9 x12 x15 (nI z) (nI (oe_at L j + 1) - nI (oe_at L i)) kc ks mk a1 a2 a3 a4 a5 a6 a7 a8 a9 (n + 1) (nI 0) (nI a') := fun a' h' => ih a' 0 h' (by omega) (fun _ => rfl) H
    refine pk_lt a i (fun z1 => nm_r (nI_1 a) (N0 _ (by omega))) (fun z1 => ?_)
    refine pk_le (i + z) a (fun z2 => nm_r (nI_1 a) (N0 _ (by omega))) (fun z2 => ?_) (nI_add i z)
    refine oe_l_at hL (by omega) ?_
    refine ek_if (oe_asb_le (by omega) (by omega) (by omega)) (fun z3 => nm_r (nI_1 a) (N0 _ (by omega))) (fun z3 => nm_r (nI_1 a) (ih _ 1 (by omega) (by omega) (fun d => ?_) H))
    exact absurd (hD d a z1 z2) z3
end
end
section
/-! What the computed checks say, in plain words. -/
theorem oe_anI {a b : Bool} (h1 : a = true) (h2 : b = true) : oe_an a b = true := by
  rw [h1, h2]
  rfl
section
variable {q m L A C N B Z : Nat}
theorem oe_lfE (h : oe_lf q m L A C N B Z = true) : oe_rd Z 0 = 8 ∧ (∀ k, k < 8 → oe_l1 L A C N B Z k = true) ∧ (∀ f, f < 8 → oe_l2 A C N B Z f = true) ∧ (∀ i, i < 8 → oe_l3 L A C N B Z i = true) := by
  unfold oe_lf at h
  obtain ⟨h0, h⟩ := oe_anE h
  obtain ⟨h1, h⟩ := oe_anE h
  obtain ⟨h2, h3⟩ := oe_anE h
  exact ⟨oe_bq h0, oe_alE h1, oe_alE h2, oe_alE h3⟩
theorem oe_l1E {k : Nat} (h : oe_l1 L A C N B Z k = true) : oe_na (oe_rd C) (oe_rd N) (oe_rd Z) 80 (oe_rd C 0) k = k + 1 ∧ oe_po (oe_rd A) (oe_rd B) (oe_rd Z) 80 (k + 1) 0 = k
    ∧ oe_rd Z (k + 1) + k = oe_ed L k 7 8 ∧ oe_lv (oe_rd A) 40 (k + 1) = oe_at L k + 1 ∧ oe_rd A (k + 1) = oe_pa L Z k 8 0 0 ∧ oe_rv A C N B Z k = true := by
  unfold oe_l1 at h
  obtain ⟨h0, h⟩ := oe_anE h
  obtain ⟨h1, h⟩ := oe_anE h
  obtain ⟨h2, h⟩ := oe_anE h
  obtain ⟨h3, h⟩ := oe_anE h
  obtain ⟨h4, h⟩ := oe_anE h
  exact ⟨oe_bq h0, oe_bq h1, oe_bq h2, oe_bq h3, oe_bq h4, h⟩
theorem oe_rvE {i : Nat} (h : oe_rv A C N B Z i = true) : oe_pz (oe_rd A) (oe_rd C) (oe_rd N) (fun Z' => Nat.beq Z' Z) 40 (oe_na (oe_rd C) (oe_rd N) (oe_rd Z) 80 (oe_rd C 0) i) Z = true
    ∧ oe_ck (oe_rd A) (oe_rd B) (oe_rd (oe_ms (oe_rd A) 40 (oe_rd A (oe_na (oe_rd C) (oe_rd N) (oe_rd Z) 80 (oe_rd C 0) i)) 0)) 80 (oe_na (oe_rd C) (oe_rd N) (oe_rd Z) 80 (oe_rd C 0) i) = true := by
  unfold oe_rv at h
  simp only [oe_fcE] at h
  exact oe_anE h
/-- what is asked of the rows of a tree with f folded -/
def oe_kR (A B Z f R : Nat) : Bool := oe_an (Nat.beq (Nat.add (oe_rd R 0) (oe_rd Z (f + 1))) 9)
  (oe_al (fun i => Nat.beq (oe_ro (oe_rd A) (oe_rd B) (oe_rd (oe_wr 0 (f + 1) 1)) (oe_rd R) 80 (Nat.succ i) 0) (oe_rw1 f i (oe_rd Z (f + 1)))) 8)
theorem oe_l2E {f : Nat} (h : oe_l2 A C N B Z f = true) : oe_pz (oe_rd A) (oe_rd C) (oe_rd N) (fun Z' => Nat.beq Z' Z) 40 (f + 1) Z = true
    ∧ oe_pr (oe_rd A) (oe_rd C) (oe_rd N) (oe_rd (oe_wr 0 (f + 1) 1)) (oe_kR A B Z f) 40 (f + 1) Z = true := by
  unfold oe_l2 at h
  simp only [oe_fcE] at h
  exact oe_anE h
theorem oe_kRE {f R : Nat} (h : oe_kR A B Z f R = true) : oe_rd R 0 + oe_rd Z (f + 1) = 9 ∧ ∀ i, i < 8 → oe_ro (oe_rd A) (oe_rd B) (oe_rd (oe_wr 0 (f + 1) 1)) (oe_rd R) 80 (i + 1) 0 = oe_rw1 f i (oe_rd Z (f + 1)) := by
  unfold oe_kR at h
  obtain ⟨h0, h⟩ := oe_anE h
  exact ⟨oe_bq h0, fun i hi => oe_bq (oe_alE h i hi)⟩
theorem oe_l3E {i : Nat} (h : oe_l3 L A C N B Z i = true) : (∀ a, a < 8 → i ≤ a → a < i + oe_rd Z (i + 1) → oe_at L a ≤ oe_dp (oe_rd A) (oe_rd C) (oe_rd N) (oe_rd Z (i + 1)) (i + 1) 0)
    ∧ oe_ul A C N B Z (i + 1) (fun C1 N1 B1 Z1 => oe_al (fun j => oe_l4 L A C1 N1 B1 Z1 (oe_rd Z (i + 1)) (oe_dp (oe_rd A) (oe_rd C) (oe_rd N) (oe_rd Z (i + 1)) (i + 1) 0) i Z j) 8) = true := by
  unfold oe_l3 at h
  simp only [oe_fcE] at h
  obtain ⟨h0, h⟩ := oe_anE h
  refine ⟨fun a ha h1 h2 => ?_, h⟩
  have t := oe_alE h0 a ha
  have c : oe_an (Nat.ble i a) (Nat.ble (Nat.succ a) (Nat.add i (oe_rd Z (Nat.succ i)))) = true :=
    oe_anI (Nat.ble_eq_true_of_le h1) (Nat.ble_eq_true_of_le (show a + 1 ≤ i + oe_rd Z (i + 1) by omega))
  rw [c] at t
  exact oe_bl' t
theorem oe_l4E {z d i Z0 j : Nat} (h : oe_l4 L A C N B Z z d i Z0 j = true) : ((i ≤ j ∧ j < i + z) → oe_ib (oe_rd A) (i + 1) 40 (j + 1) = true)
    ∧ (¬ (i ≤ j ∧ j < i + z) → oe_ib (oe_rd A) (i + 1) 40 (j + 1) = false ∧ d + oe_at L j + 1 ≤ 7 + oe_at L i
      ∧ oe_lk A C N B Z (i + 1) (j + 1) (oe_lc (oe_rd N) 40 (oe_rd C (j + 1)) 0) (fun A2 C2 N2 B2 Z2 => oe_l5 L i j z (oe_rd Z0 (j + 1) + j) A2 C2 N2 B2 Z2) = true) := by
  unfold oe_l4 at h
  simp only [oe_fcE] at h
  constructor
  · intro e
    have c : oe_an (Nat.ble i j) (Nat.ble (Nat.succ j) (Nat.add i z)) = true :=
      oe_anI (Nat.ble_eq_true_of_le e.1) (Nat.ble_eq_true_of_le (show j + 1 ≤ i + z by omega))
    rw [c] at h
    exact h
  · intro e
    have c : oe_an (Nat.ble i j) (Nat.ble (Nat.succ j) (Nat.add i z)) = false := by
      cases hc : oe_an (Nat.ble i j) (Nat.ble (Nat.succ j) (Nat.add i z)) with
      | false => rfl
      | true =>
        obtain ⟨e1, e2⟩ := oe_anE hc
        exact absurd ⟨oe_bl' e1, oe_bl' e2⟩ e
    rw [c] at h
    obtain ⟨h0, h⟩ := oe_anE (show oe_an _ _ = true from h)
    obtain ⟨h1, h⟩ := oe_anE h
    refine ⟨?_, oe_bl' h1, h⟩
    cases hb : oe_ib (oe_rd A) (i + 1) 40 (j + 1) with
    | false => rfl
    | true =>
      rw [hb] at h0
      exact absurd (show false = true from h0) (by decide)
/-- where the branch must come to lie -/
def oe_du (i z e : Nat) : Nat := if e ≤ i then e else e - z
theorem oe_l5E {i j z e : Nat} (h : oe_l5 L i j z e A C N B Z = true) : (i < e → z ≤ e) ∧ oe_po (oe_rd A) (oe_rd B) (oe_rd Z) 80 (i + 1) 0 = oe_du i z e ∧ oe_rd Z 0 = 8
    ∧ oe_na (oe_rd C) (oe_rd N) (oe_rd Z) 80 (oe_rd C 0) (oe_du i z e) = i + 1 ∧ oe_lv (oe_rd A) 40 (i + 1) = oe_at L j + 2
    ∧ oe_na (oe_rd C) (oe_rd N) (oe_rd Z) 80 (oe_rd C 0) (oe_du i z e + z - 1) = i + z ∧ oe_rv A C N B Z i = true := by
  unfold oe_l5 at h
  simp only [oe_fcE] at h
  rw [oe_cl e i e] at h
  rw [oe_cl e i true] at h
  have ed : (if e ≤ i then e else Nat.sub e z) = oe_du i z e := rfl
  rw [ed] at h
  obtain ⟨h0, h⟩ := oe_anE h
  obtain ⟨h1, h⟩ := oe_anE h
  obtain ⟨h2, h⟩ := oe_anE h
  obtain ⟨h3, h⟩ := oe_anE h
  obtain ⟨h4, h⟩ := oe_anE h
  obtain ⟨h5, h⟩ := oe_anE h
  refine ⟨fun hi => ?_, oe_bq h1, oe_bq h2, oe_bq h3, oe_bq h4, oe_bq h5, h⟩
  rw [if_neg (by omega)] at h0
  exact oe_bl' h0
end
/-! the checks behind a computed state do stand at some state -/
theorem oe_pz_ex {A C N : Nat → Nat} {k : Nat → Bool} : ∀ n t Z, oe_pz A C N k n t Z = true → ∃ Z', k Z' = true := by
  intro n
  induction n with
  | zero => intro t Z h; exact ⟨_, (oe_pz_E (Or.inl rfl) h).2⟩
  | succ n ih =>
    intro t Z h
    by_cases e : t = 0
    · exact ⟨_, (oe_pz_E (Or.inr e) h).2⟩
    · exact ih _ _ (oe_pz_S e h).2
theorem oe_u2_ex {A C N B Z x p b : Nat} {k : Nat → Nat → Nat → Nat → Bool} (K : oe_u2 A C N B Z x p b k = true) : ∃ C1 N1 B1 Z1, k C1 N1 B1 Z1 = true := by
  rw [oe_u2E] at K
  obtain ⟨Z', h⟩ := oe_pz_ex _ _ _ K
  exact ⟨_, _, _, Z', h⟩
theorem oe_ul_ex {A C N B Z x : Nat} {k : Nat → Nat → Nat → Nat → Bool} (K : oe_ul A C N B Z x k = true) : ∃ C1 N1 B1 Z1, k C1 N1 B1 Z1 = true := by
  unfold oe_ul at K
  simp only [oe_fcE] at K
  generalize oe_rd B x = b at K
  cases b with
  | zero => exact oe_u2_ex K
  | succ b => exact oe_u2_ex K
theorem oe_lk_ex {A C N B Z x p s : Nat} {k : Nat → Nat → Nat → Nat → Nat → Bool} (K : oe_lk A C N B Z x p s k = true) : ∃ A2 C2 N2 B2 Z2, k A2 C2 N2 B2 Z2 = true := by
  obtain ⟨K0, K1⟩ := oe_lkE K
  by_cases e : s = 0
  · obtain ⟨Z', h⟩ := oe_pz_ex _ _ _ (K0 e)
    exact ⟨_, _, _, _, Z', h⟩
  · obtain ⟨Z', h⟩ := oe_pz_ex _ _ _ (K1 e)
    exact ⟨_, _, _, _, Z', h⟩
end
section
/-! The law behind the eight adds, from its last check up. -/
theorem oe_rw1E (f i z : Nat) : oe_rw1 f i z = if i ≤ f then i + 1 else if f + z ≤ i then i + 2 - z else 0 := by
  unfold oe_rw1
  rw [oe_cl, oe_cl]
  rfl
section
variable {post : Int32 → St0 → Prop} {mc ms kc ks : Nat} {mk : Int32} {a1 a2 a3 a4 a5 a6 a7 a8 a9 : Nat → Int32} {q m L A C N B Z : Nat} {R F : Nat → Nat} {i j f : Nat}
theorem oe_x566 {c x W : Nat} (H : post 1 ()) (h : oe_M 8 A C N B Z R F (mk, a1, a2, a3, a4, a5, a6, a7, a8, a9)) (z0 : oe_rd Z 0 = 8) (hi : i < 8)
    (e : oe_na (oe_rd C) (oe_rd N) (oe_rd Z) 80 (oe_rd C 0) i = x) (hx : x < 16) (hW : ∀ k, k < 16 → oe_rd W k ≠ 0 → F k = 0) (K : oe_ck (oe_rd A) (oe_rd B) (oe_rd W) 80 x = true) (hc : c ≤ 1) :
    wL_lawOf_566 post mc ms (nI i) (nI c) kc ks mk a1 a2 a3 a4 a5 a6 a7 a8 a9 := by
  have h' := h
  obtain ⟨g0, g1, g2, h3, h4, h5, h6, h7, h8, h9⟩ := h'
  dsimp only at g0 g1 g2 h3 h4 h5 h6 h7 h8 h9
  have e8 : a8 0 = nI 8 := by rw [← z0]; exact (h8 0 (by omega)).1
  unfold wL_lawOf_566
  unfold wpX_size
  dsimp only
  refine br_t e8 ?_
  refine oe_m_rk h (by omega) e hx hW K (fun r hr => ?_)
  exact pk_lt r 0 (fun z => absurd z (by omega)) (fun _ => pk_lt c 0 (fun z => absurd z (by omega)) (fun _ => pk_lt 1 c (fun z => absurd z (by omega)) (fun _ => H)))
theorem oe_x474 {z0 : Int32} (H : post 1 ()) (hL : L < 2 ^ 24) (lf : oe_lf q m L A C N B Z = true) (hi : i < 8) (hj : j < 8) {f0 : Nat} (hF : ∀ k, k < 16 → k ≠ f0 → F k = 0) (hR : ∀ y, R y ≤ oe_rd Z y)
    (h : oe_M 8 A C N B Z R F (mk, a1, a2, a3, a4, a5, a6, a7, a8, a9)) (hz : (i ≤ j ∧ j < i + oe_rd Z (i + 1)) → z0 = -4)
    (hz' : ¬ (i ≤ j ∧ j < i + oe_rd Z (i + 1)) → z0 = nI (oe_du i (oe_rd Z (i + 1)) (oe_rd Z (j + 1) + j))) :
    wL_lawOf_474 post mc ms (nI L) (nI i) (nI j) 1 (nI (oe_rd Z (i + 1))) z0 kc ks mk a1 a2 a3 a4 a5 a6 a7 a8 a9 := by
  obtain ⟨l0, l1, l2, l3⟩ := oe_lfE lf
  obtain ⟨i1, i2, i3, i4, i5, i6⟩ := oe_l1E (l1 i hi)
  obtain ⟨j1, j2, j3, j4, j5, j6⟩ := oe_l1E (l1 j hj)
  obtain ⟨d1, d2⟩ := oe_l3E (l3 i hi)
  have bz : 1 ≤ oe_rd Z (i + 1) := by
    have := oe_ed_gt (L := L) (i := i) 7 8 (by omega)
    omega
  have bz2 : oe_rd Z (i + 1) + i ≤ 8 := by
    have := oe_ed_le (L := L) (i := i) 7 8 (by omega) (by omega)
    omega
  have bj2 : oe_rd Z (j + 1) + j ≤ 8 := by
    have := oe_ed_le (L := L) (i := j) 7 8 (by omega) (by omega)
    omega
  have b7 := oe_at_lt L j
  unfold wL_lawOf_474
  by_cases cs : i ≤ j ∧ j < i + oe_rd Z (i + 1)
  · obtain ⟨C1, N1, B1, Z1, k1⟩ := oe_ul_ex d2
    obtain ⟨k2, _⟩ := oe_l4E (oe_alE k1 j hj)
    refine oe_m_mv0 h (by omega) (by omega) (by omega) (by omega) i1 j1 (k2 cs) ?_
    obtain ⟨v1, v2⟩ := oe_rvE i6
    rw [i1] at v1 v2
    refine oe_m_rv h hR (by omega) hF i1 (by omega) v1 (fun s' R' F' c hc hW h' => ?_)
    obtain ⟨mk', b1, b2, b3, b4, b5, b6, b7, b8, b9⟩ := s'
    refine br_f (by decide) (br_t (hz cs).symm (br_t (by rw [hz cs]; decide) ?_))
    exact oe_x566 H h' l0 hi i1 (by omega) hW v2 hc
  · refine oe_m_mv1 (u := oe_at L i) (v := oe_at L j) h hR (by omega) (by omega) (by omega) (by omega) i1 j1 ?_ i4 j4 rfl (d1 i hi (by omega) (by omega)) ?_ d2 (fun C1 N1 B1 Z1 k1 => ((oe_l4E (oe_alE k1 j hj)).2 cs).2.2) (fun s1 A2 C2 N2 B2 Z2 R2 k2 r2 h2 => ?_)
    · obtain ⟨C1, N1, B1, Z1, k1⟩ := oe_ul_ex d2
      exact ((oe_l4E (oe_alE k1 j hj)).2 cs).1
    · obtain ⟨C1, N1, B1, Z1, k1⟩ := oe_ul_ex d2
      exact ((oe_l4E (oe_alE k1 j hj)).2 cs).2.1
    obtain ⟨mk1, t1, t2, t3, t4, t5, t6, t7, t8, t9⟩ := s1
    obtain ⟨p0, p1, p2, p3, p4, p5, p6⟩ := oe_l5E k2
    have hz'' := hz' cs
    generalize hu : oe_du i (oe_rd Z (i + 1)) (oe_rd Z (j + 1) + j) = u at p1 p3 p5 hz''
    have bu : u + oe_rd Z (i + 1) ≤ 8 := by
      rw [← hu]
      unfold oe_du
      by_cases e : oe_rd Z (j + 1) + j ≤ i
      · rw [if_pos e]; omega
      · rw [if_neg e]
        have := p0 (by omega)
        omega
    obtain ⟨v1, v2⟩ := oe_rvE p6
    have bx : oe_na (oe_rd C2) (oe_rd N2) (oe_rd Z2) 80 (oe_rd C2 0) i < 16 := oe_na_b (oe_rd_lt C2) (oe_rd_lt N2) 80 _ _ (oe_rd_lt C2 0)
    refine oe_m_rv h2 r2 (by omega) hF rfl bx v1 (fun s' R' F' c hc hW h' => ?_)
    obtain ⟨mk', b1, b2, b3, b4, b5, b6, b7, b8, b9⟩ := s'
    have x566 : wL_lawOf_566 post mc ms (nI i) (nI c) kc ks mk' b1 b2 b3 b4 b5 b6 b7 b8 b9 := oe_x566 H h' p2 hi rfl bx hW v2 hc
    rw [p1, hz'']
    refine br_f (by decide) (br_t rfl (br_f (nI_pos (by omega)) ?_))
    refine oe_m_name h' (by omega) p3 (by omega) (by omega) (by omega) ?_
    refine br_t rfl ?_
    refine oe_m_level h' (by omega) p3 (by omega) ?_
    refine oe_l_at hL hj ?_
    rw [p4]
    refine br_t (by rw [pk_m1, nI_1]) ?_
    rw [show nI u + nI (oe_rd Z (i + 1)) - 1 = nI (u + oe_rd Z (i + 1) - 1) by rw [nI_add]; exact pk_sub (b := 1) (by omega)]
    refine oe_m_name h' (by omega) p5 (by omega) (by omega) (by omega) ?_
    refine br_t ?_ x566
    rw [nI_add]
    exact (pk_sub (b := 1) (by omega)).symm
theorem oe_x443 {z0 : Int32} {c : Nat} (H : post 1 ()) (hL : L < 2 ^ 24) (lf : oe_lf q m L A C N B Z = true) (hi : i < 8) (hj : j < 8) {f0 : Nat} (hF : ∀ k, k < 16 → k ≠ f0 → F k = 0) (hR : ∀ y, R y ≤ oe_rd Z y)
    (h : oe_M 8 A C N B Z R F (mk, a1, a2, a3, a4, a5, a6, a7, a8, a9)) (hc : ¬ (i ≤ j ∧ j < i + oe_rd Z (i + 1)) → c = 0)
    (hz' : ¬ (i ≤ j ∧ j < i + oe_rd Z (i + 1)) → z0 = nI (oe_du i (oe_rd Z (i + 1)) (oe_rd Z (j + 1) + j))) :
    wL_lawOf_443 post mc ms (nI L) (nI i) (nI j) 1 (nI (oe_rd Z (i + 1))) (nI c) z0 kc ks mk a1 a2 a3 a4 a5 a6 a7 a8 a9 := by
  have b := oe_rd_lt Z (i + 1)
  have W : ¬ (i ≤ j ∧ j < i + oe_rd Z (i + 1)) → wL_lawOf_462 post mc ms (nI L) (nI i) (nI j) 1 (nI (oe_rd Z (i + 1))) (nI c) z0 kc ks mk a1 a2 a3 a4 a5 a6 a7 a8 a9 := by
    intro cs
    unfold wL_lawOf_462
    exact br_t (by rw [hc cs]; rfl) (oe_x474 H hL lf hi hj hF hR h (fun e => absurd e cs) hz')
  unfold wL_lawOf_443
  refine pk_lt j i (fun z1 => W (by omega)) (fun z1 => pk_lt j (i + oe_rd Z (i + 1)) (fun z2 => ?_) (fun z2 => W (by omega)) rfl (nI_add i _))
  unfold wL_lawOf_467
  exact oe_x474 H hL lf hi hj hF hR h (fun _ => rfl) (fun e => absurd ⟨z1, z2⟩ e)
theorem oe_x335 (H : post 1 ()) (hL : L < 2 ^ 24) (lf : oe_lf q m L A C N B Z = true) (hi : i < 8) (hj : j < 8) {f0 : Nat} (hF : ∀ k, k < 16 → k ≠ f0 → F k = 0) (hR : ∀ y, R y ≤ oe_rd Z y)
    (h : oe_M 8 A C N B Z R F (mk, a1, a2, a3, a4, a5, a6, a7, a8, a9)) :
    wL_lawOf_335 post mc ms (nI L) (nI i) (nI j) (nI (oe_ed L i 7 8)) (nI (oe_ed L j 7 8)) 1 kc ks mk a1 a2 a3 a4 a5 a6 a7 a8 a9 := by
  obtain ⟨l0, l1, l2, l3⟩ := oe_lfE lf
  obtain ⟨i1, i2, i3, i4, i5, i6⟩ := oe_l1E (l1 i hi)
  obtain ⟨j1, j2, j3, j4, j5, j6⟩ := oe_l1E (l1 j hj)
  obtain ⟨d1, d2⟩ := oe_l3E (l3 i hi)
  obtain ⟨C1, N1, B1, Z1, k1⟩ := oe_ul_ex d2
  have t4 := (oe_l4E (oe_alE k1 j hj)).2
  have b := oe_rd_lt Z (i + 1)
  have b2 := oe_rd_lt Z (j + 1)
  have bi := oe_ed_le (L := L) (i := i) 7 8 (by omega) (by omega)
  unfold wL_lawOf_335
  refine nm_r (show nI (oe_ed L i 7 8) - nI i = nI (oe_rd Z (i + 1)) by rw [← i3, pk_sub (by omega), Nat.add_sub_cancel]) ?_
  refine oe_l_at hL hj ?_
  refine oe_l_at hL hi ?_
  rw [nI_1]
  refine nm_e ⟨9, oe_w369 hL hi hj b (¬ (i ≤ j ∧ j < i + oe_rd Z (i + 1))) (fun D a h1 h2 => ?_) 8 0 0 (by omega) (by omega) (fun _ => rfl) (fun g c hc hD => ?_)⟩
  · have t1 := d1 a (by omega) h1 h2
    have t2 := (t4 D).2.1
    omega
  · rw [← j3]
    refine pk_le 8 8 (fun _ => pk_lt i (oe_rd Z (j + 1) + j) (fun z => ?_) (fun z => ?_)) (fun z => absurd z (by omega))
    · refine oe_x443 H hL lf hi hj hF hR h hD (fun D => ?_)
      obtain ⟨A2, C2, N2, B2, Z2, k2⟩ := oe_lk_ex (t4 D).2.2
      have p0 := (oe_l5E k2).1 z
      unfold oe_du
      rw [if_neg (by omega), pk_sub p0]
    · refine oe_x443 H hL lf hi hj hF hR h hD (fun D => ?_)
      unfold oe_du
      rw [if_pos z]
theorem oe_x255 (H : post 1 ()) (hL : L < 2 ^ 24) (lf : oe_lf q m L A C N B Z = true) (hi : i < 8) (hj : j < 8) {f0 : Nat} (hF : ∀ k, k < 16 → k ≠ f0 → F k = 0) (hR : ∀ y, R y ≤ oe_rd Z y)
    (h : oe_M 8 A C N B Z R F (mk, a1, a2, a3, a4, a5, a6, a7, a8, a9)) :
    ∃ n, wL_lawOf_255 post mc ms (nI L) (nI i) (nI j) (nI (oe_ed L i 7 8)) (nI (oe_ed L j 7 8)) 1 kc ks mk a1 a2 a3 a4 a5 a6 a7 a8 a9 n (-4) 0 := by
  obtain ⟨l0, l1, l2, l3⟩ := oe_lfE lf
  obtain ⟨i1, i2, i3, i4, i5, i6⟩ := oe_l1E (l1 i hi)
  refine ⟨9, oe_w255 hL hi (fun a ha => (oe_l1E (l1 a ha)).2.2.1) 8 0 0 (by omega) (fun g => ?_)⟩
  refine pk_le 8 8 (fun _ => br_f (by decide) ?_) (fun z => absurd z (by omega))
  have bp := oe_pa_le (L := L) (Z := Z) (i := i) 8 0 0 (by omega) (by omega)
  rw [← i5] at bp ⊢
  refine oe_m_parent h (by omega) i1 (by omega) (fun e => ?_) (fun e => ?_)
  · refine br_t ?_ (oe_x335 H hL lf hi hj hF hR h)
    rw [e]
    rfl
  · obtain ⟨a, ha⟩ : ∃ a, oe_rd A (i + 1) = a + 1 := ⟨oe_rd A (i + 1) - 1, by omega⟩
    rw [ha, (oe_l1E (l1 a (by omega))).2.1]
    exact br_t rfl (oe_x335 H hL lf hi hj hF hR h)
theorem oe_x185 {P : Nat} {z0 : Int32} (H : post 1 ()) (hL : L < 2 ^ 24) (lf : oe_lf q m L A C N B Z = true) (hi : i < 8) (hj : j < 8) (hf : f < 8) (kR : oe_kR A B Z f P = true) (hR : ∀ y, oe_rd P y ≤ oe_rd Z y)
    (h : oe_M 8 A C N B Z (oe_rd P) (oe_rd (oe_wr 0 (f + 1) 1)) (mk, a1, a2, a3, a4, a5, a6, a7, a8, a9)) (hz : z0 = oe_rc (oe_rw1 f i (oe_rd Z (f + 1)))) :
    wL_lawOf_185 post mc ms (nI L) (nI f) (nI i) (nI j) (nI (oe_ed L i 7 8)) (nI (oe_ed L j 7 8)) (nI (oe_rd Z (f + 1) - 1)) z0 kc ks mk a1 a2 a3 a4 a5 a6 a7 a8 a9 := by
  obtain ⟨l0, l1, l2, l3⟩ := oe_lfE lf
  obtain ⟨i1, i2, i3, i4, i5, i6⟩ := oe_l1E (l1 i hi)
  obtain ⟨f1, f2, f3, f4, f5, f6⟩ := oe_l1E (l1 f hf)
  obtain ⟨r0, r1⟩ := oe_kRE kR
  have h' := h
  obtain ⟨g0, g1, g2, h3, h4, h5, h6, h7, h8, h9⟩ := h'
  dsimp only at g0 g1 g2 h3 h4 h5 h6 h7 h8 h9
  have bf := oe_ed_gt (L := L) (i := f) 7 8 (by omega)
  have bf2 := oe_ed_le (L := L) (i := f) 7 8 (by omega) (by omega)
  have bi := oe_ed_gt (L := L) (i := i) 7 8 (by omega)
  have hF : ∀ k, k < 16 → k ≠ f + 1 → oe_rd (oe_wr 0 (f + 1) 1) k = 0 := by
    intro k _ e
    rw [oe_F1, oe_up_n _ e]
  have X := oe_x255 (post := post) (mc := mc) (ms := ms) (kc := kc) (ks := ks) H hL lf hi hj hF hR h
  unfold wL_lawOf_185
  unfold wpX_rows
  dsimp only
  refine br_t ?_ ?_
  · rw [(h9 0 (by omega)).1, show (8 : Int32) - nI (oe_rd Z (f + 1) - 1) = nI (8 - (oe_rd Z (f + 1) - 1)) from pk_sub (a := 8) (by omega), show oe_rd P 0 = 8 - (oe_rd Z (f + 1) - 1) by omega]
  refine oe_m_under h (by omega) f1 (by omega) (by omega) ?_
  refine br_t rfl ?_
  refine oe_m_ro h (by omega) i1 (by omega) ?_
  rw [r1 i hi]
  refine br_t hz.symm ?_
  refine oe_m_under h (by omega) i1 (by omega) (by omega) ?_
  refine br_t ?_ X
  rw [← i3, pk_sub (by omega), Nat.add_sub_cancel]
  exact (pk_sub (b := 1) (by omega)).symm
/-- the law behind its adds -/
theorem oe_x18 {x0 x1 x2 x3 x6 : Int32} (H : post 1 ()) (hL : L < 2 ^ 24) (lf : oe_lf q m L A C N B Z = true) (h : oe_M 8 A C N B Z (oe_rd Z) (fun _ => 0) (mk, a1, a2, a3, a4, a5, a6, a7, a8, a9)) (n : Nat) :
    wL_lawOf_18 post mc ms x0 x1 x2 x3 kc ks (n + 1) (nI L) x6 (nI 8) mk a1 a2 a3 a4 a5 a6 a7 a8 a9 := by
  obtain ⟨l0, l1, l2, l3⟩ := oe_lfE lf
  obtain ⟨f, hf, ef⟩ := pk_andE x1 (m := 7) 3 (by decide)
  obtain ⟨i, hi, ei⟩ := pk_andE x2 (m := 7) 3 (by decide)
  obtain ⟨j, hj, ej⟩ := pk_andE x3 (m := 7) 3 (by decide)
  obtain ⟨f1, f2, f3, f4, f5, f6⟩ := oe_l1E (l1 f hf)
  obtain ⟨p1, p2⟩ := oe_l2E (l2 f hf)
  have bf := oe_ed_gt (L := L) (i := f) 7 8 (by omega)
  have bf2 := oe_ed_le (L := L) (i := f) 7 8 (by omega) (by omega)
  refine pk_le 8 8 (fun _ => nm_r ef (nm_r ei (nm_r ej ?_))) (fun z => absurd z (by omega))
  refine oe_m_fold h (by omega) f1 (by omega) p1 p2 (fun s' P r k1 k2 h' => ?_)
  obtain ⟨mk', b1, b2, b3, b4, b5, b6, b7, b8, b9⟩ := s'
  refine oe_l_end hL hf ?_
  refine oe_l_end hL hi ?_
  refine oe_l_end hL hj ?_
  refine nm_r (show nI (oe_ed L f 7 8) - nI f - 1 = nI (oe_rd Z (f + 1) - 1) by rw [← f3, pk_sub (by omega), Nat.add_sub_cancel]; exact pk_sub (b := 1) (by omega)) ?_
  refine pk_lt f i (fun z => pk_le (oe_ed L f 7 8) i (fun z2 => ?_) (fun z2 => ?_)) (fun z => ?_)
  · refine oe_x185 H hL lf hi hj hf k1 k2 h' ?_
    rw [oe_rw1E, if_neg (by omega), if_pos (by omega), pk_sub (by omega), show i + 2 - oe_rd Z (f + 1) = (i - (oe_rd Z (f + 1) - 1)) + 1 by omega]
    rfl
  · refine oe_x185 H hL lf hi hj hf k1 k2 h' ?_
    rw [oe_rw1E, if_neg (by omega), if_neg (by omega)]
    rfl
  · refine oe_x185 H hL lf hi hj hf k1 k2 h' ?_
    rw [oe_rw1E, if_pos z]
    rfl
end
end
section
/-! The law's adds, and the law. -/
theorem oe_orN (a b : Nat) : nI a ||| nI b = nI (a ||| b) := by
  apply Int32.toBitVec_inj.mp
  show BitVec.ofNat 32 a ||| BitVec.ofNat 32 b = BitVec.ofNat 32 (a ||| b)
  exact BitVec.ofNat_or.symm
theorem oe_wadd {post : Int32 → St0 → Prop} {mc ms kc ks : Nat} {x0 x1 x2 x3 : Int32} {T : Nat → Nat → Nat → Nat → Nat → Nat → Nat → Nat → Bool} {e : Nat} (he : e ≤ 8)
    (HT : ∀ q L A C N B Z (mk : Int32) (a1 a2 a3 a4 a5 a6 a7 a8 a9 : Nat → Int32), q < 1000 → T q e L A C N B Z = true → L < 2 ^ (3 * e) → oe_M e A C N B Z (oe_rd Z) (fun _ => 0) (mk, a1, a2, a3, a4, a5, a6, a7, a8, a9) →
      wL_lawOf_18 post mc ms x0 x1 x2 x3 kc ks (8 - e + 1) (nI L) (nI q + (-1)) (nI e) mk a1 a2 a3 a4 a5 a6 a7 a8 a9) :
    ∀ n q m L A C N B Z (mk : Int32) (a1 a2 a3 a4 a5 a6 a7 a8 a9 : Nat → Int32), m + n = e → q < 1000 → oe_gw T n q m L A C N B Z = true → L < 2 ^ (3 * m) → oe_M m A C N B Z (oe_rd Z) (fun _ => 0) (mk, a1, a2, a3, a4, a5, a6, a7, a8, a9) →
      wL_lawOf_18 post mc ms x0 x1 x2 x3 kc ks (8 - m + 1) (nI L) (nI q + (-1)) (nI m) mk a1 a2 a3 a4 a5 a6 a7 a8 a9 := by
  intro n
  induction n with
  | zero =>
    intro q m L A C N B Z mk a1 a2 a3 a4 a5 a6 a7 a8 a9 hm hq K hL h
    have e1 : m = e := by omega
    subst e1
    exact HT q L A C N B Z mk a1 a2 a3 a4 a5 a6 a7 a8 a9 hq K hL h
  | succ n ih =>
    intro q m L A C N B Z mk a1 a2 a3 a4 a5 a6 a7 a8 a9 hm hq K hL h
    have K' : oe_al (fun l => oe_ad m A C N B Z l (fun A' C' N' B' Z' => oe_fc (Nat.lor L (Nat.shiftLeft l (Nat.mul 3 m))) (fun L' => oe_gw T n (Nat.succ l) (Nat.succ m) L' A' C' N' B' Z'))) (Nat.succ q) = true := K
    obtain ⟨d, hd, ed⟩ := pk_andE (x0 >>> ((3 * nI m) &&& 31)) (m := 7) 3 (by decide)
    have hl : d % (q + 1) < q + 1 := Nat.mod_lt _ (by omega)
    have hl7 : d % (q + 1) ≤ 7 := Nat.le_trans (Nat.mod_le _ _) (by omega)
    have e0 : ((x0 >>> ((3 * nI m) &&& 31)) &&& 7) - ((x0 >>> ((3 * nI m) &&& 31)) &&& 7) / (nI q + (-1) + 2) * (nI q + (-1) + 2) = nI (d % (q + 1)) := by
      rw [ed, oe_m1_2, pk_rem (by omega) (by omega) (by omega)]
    have t := oe_alE K' _ hl
    generalize d % (q + 1) = l at e0 hl hl7 t
    rw [show 8 - m + 1 = (8 - (m + 1) + 1) + 1 by omega]
    refine pk_le 8 m (fun z => absurd z (by omega)) (fun _ => ⟨by rw [oe_m1_2]; exact nI_ne0 (by omega) (by omega), nm_r e0 (pk_le l 7 (fun _ => ?_) (fun z => absurd z (by omega)))⟩)
    unfold wL_lawOf_55
    refine oe_m_add h (by omega) hl7 t (fun s' A' C' N' B' Z' k1 h' => ?_)
    obtain ⟨mk', b1, b2, b3, b4, b5, b6, b7, b8, b9⟩ := s'
    rw [oe_fcE] at k1
    have hs : l * 2 ^ (3 * m) < 2 ^ (3 * (m + 1)) := by
      rw [show 3 * (m + 1) = 3 + 3 * m by omega, Nat.pow_add]
      exact Nat.mul_lt_mul_of_pos_right (by omega) (Nat.pow_pos (by omega))
    have h24 : 2 ^ (3 * (m + 1)) ≤ 2 ^ 24 := Nat.pow_le_pow_right (by omega) (by omega)
    have hL' : L ||| (l <<< (3 * m)) < 2 ^ (3 * (m + 1)) := by
      rw [Nat.shiftLeft_eq]
      exact Nat.or_lt_two_pow (Nat.lt_of_lt_of_le hL (Nat.pow_le_pow_right (by omega) (by omega))) hs
    have e5 : nI L ||| (nI l <<< ((3 * nI m) &&& 31)) = nI (L ||| (l <<< (3 * m))) := by
      rw [pk_shlN _ (3 * m) (oe_sh m (by omega)) (by omega), oe_orN, Nat.shiftLeft_eq]
    refine br_t rfl (nm_r e5 (nm_r (nI_1 m) ?_))
    rw [← pk_m1 l]
    exact ih _ _ _ _ _ _ _ _ _ _ _ _ _ _ _ _ _ _ (by omega) (by omega) k1 hL' h'
theorem oe_M0 : oe_M 0 0 0 0 0 0 (oe_rd 0) (fun _ => 0) (0, (fun _ => 0), (fun _ => 0), (fun _ => 0), (fun _ => 0), (fun _ => 0), (fun _ => 0), (fun _ => 0), (fun _ => 0), (fun _ => 0)) := by
  have z : oe_Ar (fun _ => 0) (oe_rd 0) := by
    intro k _
    rw [oe_rd0]
    exact ⟨rfl, by omega⟩
  refine ⟨rfl, fun k _ => ?_, fun k h1 h2 => absurd h2 (by omega), fun k _ => ⟨rfl, (by decide : 0 < 16)⟩, z, z, z, z, z, z⟩
  rw [if_neg (by omega)]
  rfl
theorem oe_lawOf {post : Int32 → St0 → Prop} (H : post 1 ()) (p0 p1 p2 p3 : Int32) : wpL_lawOf post 184 2944 () p0 p1 p2 p3 := by
  refine ⟨by omega, by omega, 9, 369, by omega, by omega, ?_⟩
  unfold wpX_init
  refine ⟨by omega, by omega, by omega, by omega, by omega, by omega, by omega, by omega, by omega, by omega, by omega, by omega, by omega, by omega, by omega, by omega, by omega, by omega, 9, ?_⟩
  refine oe_wadd (T := oe_T) (e := 5) (by omega) (fun q L A C N B Z mk a1 a2 a3 a4 a5 a6 a7 a8 a9 hq K hL h => ?_) 5 0 0 0 0 0 0 0 0 0 _ _ _ _ _ _ _ _ _ (by omega) (by omega) oe_top (by decide) oe_M0
  have K' := oe_T_ok K
  refine oe_wadd (T := oe_lf) (e := 8) (by omega) (fun q L A C N B Z mk a1 a2 a3 a4 a5 a6 a7 a8 a9 hq K hL h => oe_x18 H hL K h 0) 3 q 5 L A C N B Z mk a1 a2 a3 a4 a5 a6 a7 a8 a9 (by omega) hq K' hL h
theorem oe_cell {post : Int32 → Prop} {L : Nat} {xs : Nat → Int32} (hL : L ≤ 4) (c : Nat) (hc : c < 4) (H : ∀ r, post r) : wpL_cellAt post L xs () (nI c) :=
  pk_le L c (fun _ => H _) (fun z => ⟨pk_in c L z, H _⟩)
theorem i_vc (xs : Nat → Int32) (L : Nat) (hL : L ≤ 4) : wpL_law (fun r => r = 1) L xs := by
  unfold wpL_law
  refine oe_cell hL 0 (by omega) (fun r1 => ?_)
  refine oe_cell hL 1 (by omega) (fun r2 => ?_)
  refine oe_cell hL 2 (by omega) (fun r3 => ?_)
  refine oe_cell hL 3 (by omega) (fun r4 => ?_)
  exact ⟨184, 2944, by omega, by omega, oe_lawOf rfl r1 r2 r3 r4⟩
end
