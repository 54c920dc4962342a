/-! THE ABSTRACT MACHINE: heap = abstract address → cell; a call hands on the whole heap. Fuel, depth, method, pc, locals, stack, (heap, cells made, slots made). -/
set_option maxRecDepth 100000
abbrev am_H : Type := Nat → Option va_E
abbrev am_S : Type := am_H × Nat × Nat
abbrev am_R : Type := (Option Value ⊕ Nat) × am_S
abbrev am_L : Type := List (Option Value)
def am_ext : Nat := 1000000
def am_in (i : Int32) (n : Nat) : Bool := !(decide (i < 0)) && decide (i.toNatClampNeg < n)
def am_c2 (v : Value) : Bool := Nat.beq v.category 2
/-- the slot ahead holds no long -/
def am_ahead (L : am_L) (i : Nat) : Bool := match i with
  | 0 => true
  | j + 1 => match L[j]? with
    | some (some v) => !(am_c2 v)
    | _ => true
def am_lg (L : am_L) (a : Nat) : Option Value := match L[a]? with
  | some (some v) => some v
  | _ => none
def am_fg (fs : List Value) (b : Nat) : Option Value := fs[b]?
def am_put1 (L : am_L) (i : Nat) (v : Value) : am_L := L.set i (some v)
def am_put2 (L : am_L) (i : Nat) (v : Value) : am_L := (L.set i (some v)).set (i + 1) none
def am_lay : List Value → am_L
  | [] => []
  | v :: vs => bif am_c2 v then some v :: none :: am_lay vs else some v :: am_lay vs
def am_pad : Nat → am_L → am_L
  | 0, _ => []
  | n + 1, [] => none :: am_pad n []
  | n + 1, x :: l => x :: am_pad n l
def am_ent (args : List Value) (n : Nat) : am_L := am_pad n (am_lay args)
def am_mL (k : Nat) : Nat := (am_inf.get k).1
def am_mN (k : Nat) : Nat := (am_inf.get k).2.1
def am_mK (k : Nat) : Nat := (am_inf.get k).2.2.1
def am_mO (k : Nat) : Nat := (am_inf.get k).2.2.2.1
def am_mC (k : Nat) : Nat := (am_inf.get k).2.2.2.2
def am_cat (l : List Value) : Nat := (l.map fun v => v.category).sum
/-- where a new cell goes -/
def am_new (c : Nat) (L : am_L) (S : am_S) : Nat := match c with
  | 0 => 5000 + S.2.1
  | 1 => match S.1 0 with
    | some (.inr (_, fs)) => match am_fg fs 15 with
      | some (.int x) => 1000 + 3 * x.toNatClampNeg
      | _ => 0
    | _ => 0
  | 2 => match am_lg L 0 with
    | some (.ref o) => o + 1
    | _ => 0
  | 3 => match am_lg L 0 with
    | some (.ref o) => o + 2
    | _ => 0
  | c => c - 10
def am_df (ci : Nat) : List Value := match ci with
  | 0 => [.null, .int 0, .int 0, .null, .null, .null, .null, .int 0, .int 0, .int 0, .int 0, .int 0, .null, .null, .null, .int 0, .int 0, .int 0, .int 0, .null, .null, .null, .null, .null, .null, .null, .null]
  | 1 => [.null, .int 0, .int 0, .int 0]
  | 4 => [.int 0, .int 0, .int 0, .null, .null, .int 0, .int 0, .int 0, .int 0, .int 0, .int 0]
  | 5 => [.int 0, .int 0, .int 0, .int 0]
  | 2 => [.null, .null, .null, .null, .null, .int 0, .int 0, .int 0]
  | 3 => [.int 0, .null, .int 0, .null, .null, .null, .null, .null, .int 0, .int 0, .int 0, .int 0, .int 0, .int 0, .int 0, .int 0, .long 0, .null, .null, .null, .null, .null, .null, .null, .null, .null, .null, .null, .null, .null, .null, .null, .null, .int 0, .int 0, .int 0, .int 0, .null, .null, .null, .null, .null, .null, .null, .null, .int 0]
  | _ => []
def am_ad (S : am_S) (q : Nat) (e : va_E) (n : Nat) : am_S := (va_up S.1 q (some e), S.2.1 + 1, S.2.2 + n)
def am_wr (S : am_S) (q : Nat) (e : va_E) : am_S := (va_up S.1 q (some e), S.2)
/-- a cell is free for a new one -/
def am_fr (S : am_S) (q : Nat) : Bool := match S.1 q with
  | none => Nat.blt q am_ext
  | some _ => false
/-- class of the elements of an array of references -/
def am_el (t : Nat) : Nat := match t with
  | 4 => 1
  | 5 => 4
  | 6 => 5
  | _ => 99
def am_z (t : Nat) : (Nat → Int32) ⊕ (Nat → Int64) ⊕ (Nat → UInt32) ⊕ (Nat → UInt64) ⊕ (Nat → Option Nat) := match t with
  | 0 => .inl (fun _ => 0)
  | 1 => .inl (fun _ => 0)
  | 2 => .inl (fun _ => 0)
  | 3 => .inr (.inl (fun _ => 0))
  | _ => .inr (.inr (.inr (.inr (fun _ => none))))
def am_len : List Nat := [3, 5, 3, 4, 3, 4, 2, 4, 2]
def am_byt : List (List Int32) := [[114, 111, 119], [97, 103, 97, 105, 110], [102, 97, 114], [102, 97, 105, 114], [119, 111, 110], [108, 111, 115, 116], [117, 112], [100, 111, 119, 110], [111, 102]]
/-- where an exception is caught (rules alone) -/
def am_hd (k pc : Nat) : Option Nat := bif Nat.beq k k_X1_rules && Nat.beq pc 51 then some 75 else none
def am_str (o : Nat) : Bool := Nat.ble am_ext o && Nat.blt (o - am_ext) 9
def am_rcv (k' : Nat) (args : List Value) (S : am_S) : Bool := bif Nat.beq (am_mK k') 1 then true else
  match args with
  | .ref o :: _ => bif Nat.beq (am_mC k') 50 then am_str o else match S.1 o with
    | some (.inr (ci, _)) => Nat.beq ci (am_mC k')
    | _ => false
  | _ => false
def am_call (rec : Nat → Nat → Nat → am_L → List Value → am_S → Option am_R) (d k pc k' nx : Nat) (L : am_L) (st : List Value) (S : am_S) : Option am_R := match d with
  | 0 => none
  | d' + 1 =>
    bif Nat.ble (am_mN k') st.length && Nat.ble (am_cat (st.drop (am_mN k'))) 8 && Nat.ble (am_lay (st.take (am_mN k')).reverse).length (am_mL k') && am_rcv k' (st.take (am_mN k')).reverse S then
      match rec d' k' 0 (am_ent (st.take (am_mN k')).reverse (am_mL k')) [] S with
      | some (.inl r, S') => rec (d' + 1) k nx L (r.toList ++ st.drop (am_mN k')) S'
      | some (.inr o, S') => match am_hd k pc, S'.1 o with
        | some hp, some (.inr (2, _)) => rec (d' + 1) k hp L [.ref o] S'
        | _, _ => none
      | none => none
    else none
def am_do (rec : Nat → Nat → Nat → am_L → List Value → am_S → Option am_R) (d k pc : Nat) (i : Instr) (nx a b c : Nat) (v : Value) (L : am_L) (st : List Value) (S : am_S) : Option am_R := match i with
  | .iload _ => match am_lg L a with
    | some (.int x) => rec d k nx L (.int x :: st) S
    | _ => none
  | .iload_n _ => match am_lg L a with
    | some (.int x) => rec d k nx L (.int x :: st) S
    | _ => none
  | .lload _ => match am_lg L a with
    | some (.long x) => rec d k nx L (.long x :: st) S
    | _ => none
  | .lload_n _ => match am_lg L a with
    | some (.long x) => rec d k nx L (.long x :: st) S
    | _ => none
  | .aload _ => match am_lg L a with
    | some (.ref x) => rec d k nx L (.ref x :: st) S
    | some .null => rec d k nx L (.null :: st) S
    | _ => none
  | .aload_n _ => match am_lg L a with
    | some (.ref x) => rec d k nx L (.ref x :: st) S
    | some .null => rec d k nx L (.null :: st) S
    | _ => none
  | .iconst _ => rec d k nx L (v :: st) S
  | .bipush _ => rec d k nx L (v :: st) S
  | .sipush _ => rec d k nx L (v :: st) S
  | .lconst _ => rec d k nx L (v :: st) S
  | .ldc _ => rec d k nx L (v :: st) S
  | .ldc_w _ => rec d k nx L (v :: st) S
  | .ldc2_w _ => rec d k nx L (v :: st) S
  | .aconst_null => rec d k nx L (.null :: st) S
  | .getstatic _ => rec d k nx L (v :: st) S
  | .istore _ => match st with
    | .int x :: st => bif Nat.blt a L.length && am_ahead L a then rec d k nx (am_put1 L a (.int x)) st S else none
    | _ => none
  | .istore_n _ => match st with
    | .int x :: st => bif Nat.blt a L.length && am_ahead L a then rec d k nx (am_put1 L a (.int x)) st S else none
    | _ => none
  | .astore _ => match st with
    | .ref x :: st => bif Nat.blt a L.length && am_ahead L a then rec d k nx (am_put1 L a (.ref x)) st S else none
    | _ => none
  | .astore_n _ => match st with
    | .ref x :: st => bif Nat.blt a L.length && am_ahead L a then rec d k nx (am_put1 L a (.ref x)) st S else none
    | _ => none
  | .lstore _ => match st with
    | .long x :: st => bif Nat.blt (a + 1) L.length && am_ahead L a then rec d k nx (am_put2 L a (.long x)) st S else none
    | _ => none
  | .lstore_n _ => match st with
    | .long x :: st => bif Nat.blt (a + 1) L.length && am_ahead L a then rec d k nx (am_put2 L a (.long x)) st S else none
    | _ => none
  | .iinc _ _ => match am_lg L a, v with
    | some (.int x), .int y => bif Nat.blt a L.length && am_ahead L a then rec d k nx (am_put1 L a (.int (x + y))) st S else none
    | _, _ => none
  | .iadd => match st with
    | .int y :: .int x :: st => rec d k nx L (.int (x + y) :: st) S
    | _ => none
  | .isub => match st with
    | .int y :: .int x :: st => rec d k nx L (.int (x - y) :: st) S
    | _ => none
  | .imul => match st with
    | .int y :: .int x :: st => rec d k nx L (.int (x * y) :: st) S
    | _ => none
  | .iand => match st with
    | .int y :: .int x :: st => rec d k nx L (.int (x &&& y) :: st) S
    | _ => none
  | .ior => match st with
    | .int y :: .int x :: st => rec d k nx L (.int (x ||| y) :: st) S
    | _ => none
  | .idiv => match st with
    | .int y :: .int x :: st => if y = 0 then none else rec d k nx L (.int (x / y) :: st) S
    | _ => none
  | .irem => match st with
    | .int y :: .int x :: st => if y = 0 then none else rec d k nx L (.int (x - x / y * y) :: st) S
    | _ => none
  | .ineg => match st with
    | .int x :: st => rec d k nx L (.int (-x) :: st) S
    | _ => none
  | .ishl => match st with
    | .int y :: .int x :: st => rec d k nx L (.int (x <<< (y &&& 31)) :: st) S
    | _ => none
  | .ishr => match st with
    | .int y :: .int x :: st => rec d k nx L (.int (x >>> (y &&& 31)) :: st) S
    | _ => none
  | .iushr => match st with
    | .int y :: .int x :: st => rec d k nx L (.int (x.toUInt32 >>> (y.toUInt32 &&& Int32.toUInt32 31)).toInt32 :: st) S
    | _ => none
  | .i2b => match st with
    | .int x :: st => rec d k nx L (.int x.toInt8.toInt32 :: st) S
    | _ => none
  | .i2c => match st with
    | .int x :: st => rec d k nx L (.int (x.toUInt32 % 65536).toInt32 :: st) S
    | _ => none
  | .i2l => match st with
    | .int x :: st => rec d k nx L (.long x.toInt64 :: st) S
    | _ => none
  | .ladd => match st with
    | .long y :: .long x :: st => rec d k nx L (.long (x + y) :: st) S
    | _ => none
  | .lsub => match st with
    | .long y :: .long x :: st => rec d k nx L (.long (x - y) :: st) S
    | _ => none
  | .lmul => match st with
    | .long y :: .long x :: st => rec d k nx L (.long (x * y) :: st) S
    | _ => none
  | .lcmp => match st with
    | .long y :: .long x :: st => rec d k nx L (.int (lg_cmp x y) :: st) S
    | _ => none
  | .dup => match st with
    | w :: st => bif Nat.beq w.category 1 then rec d k nx L (w :: w :: st) S else none
    | _ => none
  | .pop => match st with
    | w :: st => bif Nat.beq w.category 1 then rec d k nx L st S else none
    | _ => none
  | .dup2 => match st with
    | w :: u :: st => bif Nat.beq w.category 1 && Nat.beq u.category 1 then rec d k nx L (w :: u :: w :: u :: st) S else none
    | _ => none
  | .pop2 => match st with
    | .long _ :: st => rec d k nx L st S
    | _ => none
  | .goto _ => rec d k a L st S
  | .if_icmp cn _ => match st with
    | .int y :: .int x :: st => match cn with
      | .eq => if x = y then rec d k a L st S else rec d k nx L st S
      | .ne => if x = y then rec d k nx L st S else rec d k a L st S
      | .lt => if x < y then rec d k a L st S else rec d k nx L st S
      | .ge => if y ≤ x then rec d k a L st S else rec d k nx L st S
      | .gt => if y < x then rec d k a L st S else rec d k nx L st S
      | .le => if x ≤ y then rec d k a L st S else rec d k nx L st S
    | _ => none
  | .ifCond cn _ => match st with
    | .int x :: st => match cn with
      | .eq => if x = 0 then rec d k a L st S else rec d k nx L st S
      | .ne => if x = 0 then rec d k nx L st S else rec d k a L st S
      | .lt => if x < 0 then rec d k a L st S else rec d k nx L st S
      | .ge => if 0 ≤ x then rec d k a L st S else rec d k nx L st S
      | .gt => if 0 < x then rec d k a L st S else rec d k nx L st S
      | .le => if x ≤ 0 then rec d k a L st S else rec d k nx L st S
    | _ => none
  | .tableswitch _ lo hi offs => match st with
    | .int x :: st => if x.toInt < lo ∨ hi < x.toInt then rec d k a L st S else
        match (offs[(x.toInt - lo).toNat]? : Option Int) with
        | some off => if 0 ≤ (pc : Int) + off then rec d k ((pc : Int) + off).toNat L st S else none
        | none => none
    | _ => none
  | .getfield _ => match st with
    | .ref o :: st => bif Nat.beq a 50 then (bif am_str o then (match b with
        | 0 => rec d k nx L (.ref (o + 100) :: st) S
        | 1 => rec d k nx L (.int 0 :: st) S
        | _ => none) else none) else match S.1 o with
      | some (.inr (ci, fs)) => bif Nat.beq ci a then
          match am_fg fs b with
          | some w => rec d k nx L (w :: st) S
          | none => none
        else none
      | _ => none
    | _ => none
  | .putfield _ => match st with
    | w :: .ref o :: st => match S.1 o with
      | some (.inr (ci, fs)) => bif Nat.beq ci a && Nat.blt b fs.length then
          match v, w with
          | .int _, .int x => rec d k nx L st (am_wr S o (.inr (ci, fs.set b (.int x))))
          | .long _, .long x => rec d k nx L st (am_wr S o (.inr (ci, fs.set b (.long x))))
          | .float _, .int x => if x = 0 ∨ x = 1 then rec d k nx L st (am_wr S o (.inr (ci, fs.set b (.int x)))) else none
          | .null, .ref x => rec d k nx L st (am_wr S o (.inr (ci, fs.set b (.ref x))))
          | .null, .null => rec d k nx L st (am_wr S o (.inr (ci, fs.set b .null)))
          | .null, .retAddr x => rec d k nx L st (am_wr S o (.inr (ci, fs.set b (.retAddr x))))
          | _, _ => none
        else none
      | _ => none
    | _ => none
  | .iaload => match st with
    | .int j :: .ref o :: st => match S.1 o with
      | some (.inl (t, n, .inl f)) => bif Nat.beq t 0 && am_in j n then rec d k nx L (.int (f j.toNatClampNeg) :: st) S else none
      | _ => none
    | _ => none
  | .baload => match st with
    | .int j :: .ref o :: st => match S.1 o with
      | some (.inl (t, n, .inl f)) => bif (Nat.beq t 1 || Nat.beq t 2) && am_in j n then rec d k nx L (.int (f j.toNatClampNeg) :: st) S else none
      | none => bif Nat.ble 100 (o - am_ext) && am_str (o - 100) && am_in j (am_len.getD (o - am_ext - 100) 0) then rec d k nx L (.int ((am_byt.getD (o - am_ext - 100) []).getD j.toNatClampNeg 0) :: st) S else none
      | _ => none
    | _ => none
  | .laload => match st with
    | .int j :: .ref o :: st => match S.1 o with
      | some (.inl (t, n, .inr (.inl f))) => bif Nat.beq t 3 && am_in j n then rec d k nx L (.long (f j.toNatClampNeg) :: st) S else none
      | _ => none
    | _ => none
  | .aaload => match st with
    | .int j :: .ref o :: st => match S.1 o with
      | some (.inl (t, n, .inr (.inr (.inr (.inr f))))) => bif Nat.ble 4 t && Nat.ble t 6 && am_in j n then rec d k nx L (va_rf (f j.toNatClampNeg) :: st) S else none
      | _ => none
    | _ => none
  | .iastore => match st with
    | .int x :: .int j :: .ref o :: st => match S.1 o with
      | some (.inl (t, n, .inl f)) => bif Nat.beq t 0 && am_in j n then rec d k nx L st (am_wr S o (.inl (t, n, .inl (upd f j.toNatClampNeg x)))) else none
      | _ => none
    | _ => none
  | .bastore => match st with
    | .int x :: .int j :: .ref o :: st => match S.1 o with
      | some (.inl (t, n, .inl f)) => bif am_in j n then
          match t with
          | 1 => rec d k nx L st (am_wr S o (.inl (1, n, .inl (upd f j.toNatClampNeg (vp_nar .byte x)))))
          | 2 => rec d k nx L st (am_wr S o (.inl (2, n, .inl (upd f j.toNatClampNeg (vp_nar .boolean x)))))
          | _ => none
        else none
      | _ => none
    | _ => none
  | .lastore => match st with
    | .long x :: .int j :: .ref o :: st => match S.1 o with
      | some (.inl (t, n, .inr (.inl f))) => bif Nat.beq t 3 && am_in j n then rec d k nx L st (am_wr S o (.inl (t, n, .inr (.inl (vp_updL f j.toNatClampNeg x))))) else none
      | _ => none
    | _ => none
  | .aastore => match st with
    | .ref x :: .int j :: .ref o :: st => match S.1 o, S.1 x with
      | some (.inl (t, n, .inr (.inr (.inr (.inr f))))), some (.inr (ci, _)) => bif Nat.ble 4 t && Nat.ble t 6 && Nat.beq (am_el t) ci && am_in j n then rec d k nx L st (am_wr S o (.inl (t, n, .inr (.inr (.inr (.inr (va_up f j.toNatClampNeg (some x)))))))) else none
      | _, _ => none
    | _ => none
  | .arraylength => match st with
    | .ref o :: st => match S.1 o with
      | some (.inl (t, x)) => bif Nat.ble t 6 then rec d k nx L (.int (Int32.ofNat x.1) :: st) S else none
      | none => bif Nat.ble 100 (o - am_ext) && am_str (o - 100) then rec d k nx L (.int (Int32.ofNat (am_len.getD (o - am_ext - 100) 0)) :: st) S else none
      | _ => none
    | _ => none
  | .newarray _ => match st with
    | .int n :: st => if n = Int32.ofNat b then bif Nat.ble b 10000 && am_fr S (am_new c L S) then rec d k nx L (.ref (am_new c L S) :: st) (am_ad S (am_new c L S) (.inl (a, b, am_z a)) b) else none else none
    | _ => none
  | .anewarray _ => match st with
    | .int n :: st => if n = Int32.ofNat b then bif Nat.ble b 10000 && am_fr S (am_new c L S) then rec d k nx L (.ref (am_new c L S) :: st) (am_ad S (am_new c L S) (.inl (a, b, am_z a)) b) else none else none
    | _ => none
  | .new _ => bif Nat.blt a 6 && am_fr S (am_new c L S) then rec d k nx L (.ref (am_new c L S) :: st) (am_ad S (am_new c L S) (.inr (a, am_df a)) b) else none
  | .ireturn => match st with
    | [.int x] => match v with
      | .int _ => some (.inl (some (.int x)), S)
      | .double _ => if vp_nar .char x = x then some (.inl (some (.int x)), S) else none
      | .long _ => if vp_nar .byte x = x then some (.inl (some (.int x)), S) else none
      | _ => if x = 0 ∨ x = 1 then some (.inl (some (.int x)), S) else none
    | _ => none
  | .lreturn => match st with
    | [.long x] => some (.inl (some (.long x)), S)
    | _ => none
  | .areturn => match st with
    | [.ref x] => some (.inl (some (.ref x)), S)
    | _ => none
  | .return_ => match st with
    | [] => some (.inl none, S)
    | _ => none
  | .athrow => match st with
    | [.ref o] => bif Nat.beq k k_X1_readRules then some (.inr o, S) else none
    | _ => none
  | .invokevirtual _ => bif Nat.beq b 0 && Nat.beq (am_mK a) 0 then am_call rec d k pc a nx L st S else none
  | .invokestatic _ => match b with
    | 0 => bif Nat.beq (am_mK a) 1 then am_call rec d k pc a nx L st S else none
    | 8 => match st with
      | .int n :: .int dp :: .ref o :: .int sp :: .ref o0 :: st => match S.1 o0, S.1 o, d with
        | some (.inl (t0, n0, .inl f)), some (.inl (t1, n1, .inl g)), _ + 1 => bif Nat.beq t0 0 && Nat.beq t1 0 && !(decide (sp < 0)) && !(decide (dp < 0)) && !(decide (n < 0)) && decide (sp.toNatClampNeg + n.toNatClampNeg ≤ n0) && decide (dp.toNatClampNeg + n.toNatClampNeg ≤ n1) && Nat.ble (am_cat st) 8 then rec d k nx L st (am_wr S o (.inl (0, n1, .inl (va_cpy f g sp.toNatClampNeg dp.toNatClampNeg n.toNatClampNeg)))) else none
        | _, _, _ => none
      | _ => none
    | 10 => match st, d with
      | .int x :: st, _ + 1 => bif Nat.ble (am_cat st) 8 then rec d k nx L (.int (if 0 ≤ x then x else 0 - x) :: st) S else none
      | _, _ => none
    | 11 => match st, d with
      | .int y :: .int x :: st, _ + 1 => bif Nat.ble (am_cat st) 8 then rec d k nx L (.int (if x < y then y else x) :: st) S else none
      | _, _ => none
    | _ => none
  | .invokespecial _ => match b with
    | 0 => bif Nat.beq (am_mK a) 2 then am_call rec d k pc a nx L st S else none
    | 9 => match st, d with
      | .ref o :: st, _ + 1 => bif Nat.ble (am_cat st) 8 then rec d k nx L st S else none
      | _, _ => none
    | _ => none
  | _ => none
def am_body (rec : Nat → Nat → Nat → am_L → List Value → am_S → Option am_R) (d k pc : Nat) (L : am_L) (st : List Value) (S : am_S) : Option am_R := match (am_tbs.get k).get pc with
  | (q, i, nx, a, b, c, v) => bif Nat.beq q pc then am_do rec d k pc i nx a b c v L st S else none
def am_run : Nat → Nat → Nat → Nat → am_L → List Value → am_S → Option am_R
  | 0 => fun _ _ _ _ _ _ => none
  | n + 1 => am_body (am_run n)
