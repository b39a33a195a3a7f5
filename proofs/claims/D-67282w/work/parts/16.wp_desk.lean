/-! the wp-predicates of PromiseDesk (printed by gen/wp.py) -/
abbrev Wc : Type := Int → Int → Mv → Le → Po → Prop
def w1_object (a1 : Int) (V : Mv) (Z : Le) (Q : Po) : Prop :=
  xS V Z 0 (V 7 0) a1 fun V1 => xS V1 Z 3 (V1 7 0) 0 fun V3 => xS V3 Z 5 (V3 7 0) (-1) fun V5 => xA (V5 7 0 + 1) fun _ => xF V5 7 (V5 7 0 + 1) fun V8 => xA (V8 7 0 - 1) fun _ => Q (V8 7 0 - 1) V8 Z
def w1_function_J72 (a1 : Int) (a2 : Int) (a3 : Int) (a4 : Int) (V : Mv) (Z : Le) (Q : Po) : Prop :=
  xS V Z 15 (V 19 0) a1 fun V1 => xS V1 Z 16 (V1 19 0) a2 fun V3 => xS V3 Z 17 (V3 19 0) a3 fun V5 => xS V5 Z 18 (V5 19 0) a4 fun V7 => xA (V7 19 0 + 1) fun _ => xF V7 19 (V7 19 0 + 1) fun V10 => xA (V10 19 0 - 1) fun _ => Q (V10 19 0 - 1) V10 Z
def w1_function (a1 : Int) (a2 : Int) (a3 : Int) (a4 : Int) (V : Mv) (Z : Le) (Q : Po) : Prop :=
  xI (V 19 0 = (Z 15 : Int)) (xA (2 * V 19 0) fun _ => xG V Z 15 (2 * V 19 0) fun V14 Z15 => xG V14 Z15 16 (2 * V 19 0) fun V18 Z19 => xG V18 Z19 17 (2 * V 19 0) fun V22 Z23 => xG V22 Z23 18 (2 * V 19 0) fun V26 Z27 => w1_function_J72 a1 a2 a3 a4 V26 Z27 Q) (w1_function_J72 a1 a2 a3 a4 V Z Q)
def w1_newCell_J29 (a1 : Int) (V : Mv) (Z : Le) (Q : Po) : Prop :=
  xS V Z 20 (V 21 0) a1 fun V1 => xA (V1 21 0 + 1) fun _ => xF V1 21 (V1 21 0 + 1) fun V4 => xA (V4 21 0 - 1) fun _ => Q (V4 21 0 - 1) V4 Z
def w1_newCell (a1 : Int) (V : Mv) (Z : Le) (Q : Po) : Prop :=
  xI (V 21 0 = (Z 20 : Int)) (xA (2 * V 21 0) fun _ => xG V Z 20 (2 * V 21 0) fun V8 Z9 => w1_newCell_J29 a1 V8 Z9 Q) (w1_newCell_J29 a1 V Z Q)
def w1_row_L37 (Q : Po) : Nat → Int → Int → Mv → Le → Prop
  | 0, _, _, _, _ => False
  | n + 1, a1, a2, V, Z => xI (a2 < a1) (xA (V 39 0 + a2) fun _ => xS V Z 38 (V 39 0 + a2) (-1) fun V6 => xA (a2 + 1) fun _ =>  w1_row_L37 Q n a1 (a2 + 1) V6 Z) (xA (V 39 0 + a1) fun _ => xF V 39 (V 39 0 + a1) fun V2 => xA (V2 39 0 - a1) fun _ => Q (V2 39 0 - a1) V2 Z)
def w1_row_L0 (Q : Po) : Nat → Int → Mv → Le → Prop
  | 0, _, _, _ => False
  | n + 1, a1, V, Z => xA (V 39 0 + a1) fun _ => xI ((Z 38 : Int) < (V 39 0 + a1)) (xA (2 * (Z 38 : Int)) fun _ => xG V Z 38 (2 * (Z 38 : Int)) fun V11 Z12 => w1_row_L0 Q n a1 V11 Z12) (∃ n, w1_row_L37 Q n a1 0 V Z)
def w1_row (a1 : Int) (V : Mv) (Z : Le) (Q : Po) : Prop :=
  ∃ n, w1_row_L0 Q n a1 V Z
def w1_holder (a1 : Int) (a2 : Int) (a3 : Int) (V : Mv) (Z : Le) (Q : Po) : Prop :=
  w1_object a1 V Z (fun x1 V3 Z4 =>  xS V3 Z4 1 x1 a2 fun V7 => xS V7 Z4 2 x1 a3 fun V9 => xA (-2 - x1) fun _ => Q (-2 - x1) V9 Z4 )
def w1_error (V : Mv) (Z : Le) (Q : Po) : Prop :=
  w1_object 2 V Z (fun x1 V3 Z4 =>  xA (-2 - x1) fun _ => Q (-2 - x1) V3 Z4 )
def w1_raise (a1 : Int) (V : Mv) (Z : Le) (Q : Po) : Prop :=
  xZ V 54 1 fun V1 => Q a1 V1 Z
def w1_functionsOf (a1 : Int) (V : Mv) (Z : Le) (Q : Po) : Prop :=
  w1_newCell 0 V Z (fun x1 V3 Z4 =>  w1_function 1 a1 x1 0 V3 Z4 (fun x7 V9 Z10 =>  w1_function 2 a1 x1 0 V9 Z10 (fun x13 V15 Z16 =>  Q x7 V15 Z16 ) ) )
def w1_newPromise (V : Mv) (Z : Le) (Q : Po) : Prop :=
  w1_object 0 V Z (fun x1 V3 Z4 =>  Q x1 V3 Z4 )
def w1_enqueue_J172 (a4 : Int) (V : Mv) (Z : Le) (Q : Po) : Prop :=
  xF V 35 a4 fun V1 => xA (V1 36 0 + 1) fun _ => xF V1 36 (V1 36 0 + 1) fun V4 => Q 0 V4 Z
def w1_enqueue_J113 (a1 : Int) (a2 : Int) (a3 : Int) (a4 : Int) (V : Mv) (Z : Le) (Q : Po) : Prop :=
  xS V Z 29 a4 a1 fun V6 => xS V6 Z 30 a4 a2 fun V8 => xS V8 Z 31 a4 a3 fun V10 => xS V10 Z 32 a4 0 fun V12 => xI (V12 34 0 = 0) (xF V12 34 a4 fun V16 => w1_enqueue_J172 a4 V16 Z Q) (xS V12 Z 32 (V12 35 0) a4 fun V14 => w1_enqueue_J172 a4 V14 Z Q)
def w1_enqueue_J97 (a1 : Int) (a2 : Int) (a3 : Int) (V : Mv) (Z : Le) (Q : Po) : Prop :=
  xA (V 33 0 + 1) fun _ => xF V 33 (V 33 0 + 1) fun V19 => w1_enqueue_J113 a1 a2 a3 (V 33 0) V19 Z Q
def w1_enqueue (a1 : Int) (a2 : Int) (a3 : Int) (V : Mv) (Z : Le) (Q : Po) : Prop :=
  xI (V 37 0 = 0) (xI (V 33 0 = (Z 29 : Int)) (xA (2 * V 33 0) fun _ => xG V Z 29 (2 * V 33 0) fun V22 Z23 => xG V22 Z23 30 (2 * V 33 0) fun V26 Z27 => xG V26 Z27 31 (2 * V 33 0) fun V30 Z31 => xG V30 Z31 32 (2 * V 33 0) fun V34 Z35 => w1_enqueue_J97 a1 a2 a3 V34 Z35 Q) (w1_enqueue_J97 a1 a2 a3 V Z Q)) (xL V Z 32 (V 37 0) fun _ => xF V 37 (V 32 (V 37 0)) fun V38 => w1_enqueue_J113 a1 a2 a3 (V 37 0) V38 Z Q)
def w1_settle_2_L22 (Q : Po) : Nat → Int → Int → Int → Int → Mv → Le → Prop
  | 0, _, _, _, _, _, _ => False
  | n + 1, a1, a2, a3, a4, V, Z => xI (a4 = 0) (xS V Z 3 a1 0 fun V1 => Q 0 V1 Z) (w1_enqueue a4 a2 a3 V Z (fun _ V5 Z6 =>  xL V5 Z6 27 a4 fun _ => w1_settle_2_L22 Q n a1 a2 a3 (V5 27 a4) V5 Z6 ))
def w1_settle_2 (a1 : Int) (a2 : Int) (a3 : Int) (V : Mv) (Z : Le) (Q : Po) : Prop :=
  xS V Z 1 a1 a2 fun V9 => xS V9 Z 2 a1 a3 fun V11 => xL V11 Z 3 a1 fun _ => ∃ n, w1_settle_2_L22 Q n a1 a2 a3 (V11 3 a1) V11 Z
def w1_resolve_J39 (a1 : Int) (a2 : Int) (V : Mv) (Z : Le) (Q : Po) : Prop :=
  w1_settle_2 a1 1 a2 V Z (fun _ V3 Z4 =>  Q 0 V3 Z4 )
def w1_resolve_J112 (a1 : Int) (a3 : Int) (V : Mv) (Z : Le) (Q : Po) : Prop :=
  xA ((-1) - a3) fun _ => w1_enqueue ((-1) - a3) a1 0 V Z (fun _ V10 Z11 =>  Q 0 V10 Z11 )
def w1_resolve_J108 (b1 : Int) (b2 : Int) (b3 : Int) (V : Mv) (Z : Le) (Q : Po) : Prop :=
  w1_settle_2 b1 b2 b3 V Z (fun _ V16 Z17 =>  Q 0 V16 Z17 )
def w1_resolve_J88 (a2 : Int) (a3 : Int) (b1 : Int) (b2 : Int) (V : Mv) (Z : Le) (Q : Po) : Prop :=
  xL V Z 8 a3 fun _ => xI (V 8 a3 = 1) (xL V Z 10 a3 fun _ => w1_resolve_J108 b1 b2 (V 10 a3) V Z Q) (w1_resolve_J108 b1 b2 a2 V Z Q)
def w1_resolve (a1 : Int) (a2 : Int) (V : Mv) (Z : Le) (Q : Po) : Prop :=
  xA (-2 - a1) fun _ => xI (a2 = (-2 - a1)) (w1_error  V Z (fun x23 V25 Z26 =>  w1_settle_2 a1 2 x23 V25 Z26 (fun _ V31 Z32 =>  Q 0 V31 Z32 ) )) (xI (a2 < -1) (xA (-2 - a2) fun _ => xL V Z 0 (-2 - a2) fun _ => xI (1 < (V 0 (-2 - a2))) (w1_resolve_J39 a1 a2 V Z Q) (xA (-2 - a2) fun _ => xL V Z 0 (-2 - a2) fun _ => xI ((V 0 (-2 - a2)) = 1) (xL V Z 8 (-2 - a2) fun _ => xI ((V 8 (-2 - a2)) = 0) (w1_resolve_J112 a1 (-2 - a2) V Z Q) (xL V Z 8 (-2 - a2) fun _ => xI ((V 8 (-2 - a2)) = 1) (w1_resolve_J88 a2 (-2 - a2) a1 2 V Z Q) (w1_resolve_J88 a2 (-2 - a2) a1 1 V Z Q))) (w1_resolve_J112 a1 (-2 - a2) V Z Q))) (w1_resolve_J39 a1 a2 V Z Q))
def w1_wait_J98 (a1 : Int) (a2 : Int) (a3 : Int) (a4 : Int) (a5 : Int) (V : Mv) (Z : Le) (Q : Po) : Prop :=
  xA (V 28 0 + 1) fun _ => xF V 28 (V 28 0 + 1) fun V2 => xS V2 Z 22 (V 28 0) a1 fun V4 => xS V4 Z 23 (V 28 0) a2 fun V6 => xS V6 Z 24 (V 28 0) a3 fun V8 => xS V8 Z 25 (V 28 0) a4 fun V10 => xS V10 Z 26 (V 28 0) a5 fun V12 => xS V12 Z 27 (V 28 0) 0 fun V14 => Q (V 28 0) V14 Z
def w1_wait (a1 : Int) (a2 : Int) (a3 : Int) (a4 : Int) (a5 : Int) (V : Mv) (Z : Le) (Q : Po) : Prop :=
  xI (V 28 0 = (Z 22 : Int)) (xA (2 * V 28 0) fun _ => xG V Z 22 (2 * V 28 0) fun V17 Z18 => xG V17 Z18 23 (2 * V 28 0) fun V21 Z22 => xG V21 Z22 24 (2 * V 28 0) fun V25 Z26 => xG V25 Z26 25 (2 * V 28 0) fun V29 Z30 => xG V29 Z30 26 (2 * V 28 0) fun V33 Z34 => xG V33 Z34 27 (2 * V 28 0) fun V37 Z38 => w1_wait_J98 a1 a2 a3 a4 a5 V37 Z38 Q) (w1_wait_J98 a1 a2 a3 a4 a5 V Z Q)
def w1_perform_J67 (a1 : Int) (V : Mv) (Z : Le) (Q : Po) : Prop :=
  xB V Z 6 a1 1 fun V1 => Q 0 V1 Z
def w1_perform_J40 (a1 : Int) (a2 : Int) (V : Mv) (Z : Le) (Q : Po) : Prop :=
  xS V Z 4 a1 a2 fun V3 => w1_perform_J67 a1 V3 Z Q
def w1_perform (a1 : Int) (a2 : Int) (V : Mv) (Z : Le) (Q : Po) : Prop :=
  xL V Z 1 a1 fun _ => xI (V 1 a1 = 0) (xL V Z 3 a1 fun _ => xI (V 3 a1 = 0) (xS V Z 3 a1 a2 fun V13 => w1_perform_J40 a1 a2 V13 Z Q) (xL V Z 4 a1 fun _ => xS V Z 27 (V 4 a1) a2 fun V11 => w1_perform_J40 a1 a2 V11 Z Q)) (xL V Z 1 a1 fun _ => xL V Z 2 a1 fun _ => w1_enqueue a2 (V 1 a1) (V 2 a1) V Z (fun _ V7 Z8 =>  w1_perform_J67 a1 V7 Z8 Q ))
def w1_then (a1 : Int) (a2 : Int) (a3 : Int) (V : Mv) (Z : Le) (Q : Po) : Prop :=
  w1_newPromise  V Z (fun x1 V3 Z4 =>  w1_functionsOf x1 V3 Z4 (fun x7 V9 Z10 =>  xA (x7 + 1) fun _ => w1_wait a2 a3 x7 (x7 + 1) (-1) V9 Z10 (fun x14 V16 Z17 =>  w1_perform a1 x14 V16 Z17 (fun _ V22 Z23 =>  Q x1 V22 Z23 ) ) ) )
def w1_manyError (a1 : Int) (V : Mv) (Z : Le) (Q : Po) : Prop :=
  w1_object 3 V Z (fun x1 V3 Z4 =>  xA (a1 + 4) fun _ => xA (a1 + 1) fun _ => xL V3 Z4 38 (a1 + 1) fun _ => w1_holder 4 (a1 + 4) (V3 38 (a1 + 1)) V3 Z4 (fun x9 V11 Z12 =>  xA (-2 - x9) fun _ => xS V11 Z12 1 x1 (-2 - x9) fun V16 => xA (-2 - x1) fun _ => Q (-2 - x1) V16 Z12 ) )
def w1_log_2_J46 (a1 : Int) (a2 : Int) (V : Mv) (Z : Le) (Q : Po) : Prop :=
  xS V Z 51 (V 53 0) a1 fun V1 => xS V1 Z 52 (V1 53 0) a2 fun V3 => xA (V3 53 0 + 1) fun _ => xF V3 53 (V3 53 0 + 1) fun V6 => Q 0 V6 Z
def w1_log_2 (a1 : Int) (a2 : Int) (V : Mv) (Z : Le) (Q : Po) : Prop :=
  xI (V 53 0 = (Z 51 : Int)) (xA (2 * V 53 0) fun _ => xG V Z 51 (2 * V 53 0) fun V9 Z10 => xA (2 * V9 53 0) fun _ => xG V9 Z10 52 (2 * V9 53 0) fun V14 Z15 => w1_log_2_J46 a1 a2 V14 Z15 Q) (w1_log_2_J46 a1 a2 V Z Q)
def w1_user (wc : Wc) (a1 : Int) (a2 : Int) (V : Mv) (Z : Le) (Q : Po) : Prop :=
  xL V Z 18 a1 fun _ => w1_log_2 (V 18 a1) a2 V Z (fun _ V3 Z4 =>  xL V3 Z4 16 a1 fun _ => xI (V3 16 a1 = 0) (xL V3 Z4 17 a1 fun _ => Q (V3 17 a1) V3 Z4) (xI (V3 16 a1 = 1) (Q a2 V3 Z4) (xI (V3 16 a1 = 2) (xL V3 Z4 17 a1 fun _ => w1_raise (V3 17 a1) V3 Z4 (fun x7 V9 Z10 =>  Q x7 V9 Z10 )) (xI (V3 16 a1 = 3) (w1_raise a2 V3 Z4 (fun x13 V15 Z16 =>  Q x13 V15 Z16 )) (xL V3 Z4 17 a1 fun _ => xA (-2 - V3 17 a1) fun _ => xL V3 Z4 5 (-2 - V3 17 a1) fun _ => xL V3 Z4 16 a1 fun _ => xA ((V3 5 (-2 - V3 17 a1)) + V3 16 a1) fun _ => xA (((V3 5 (-2 - V3 17 a1)) + V3 16 a1) - 4) fun _ => wc (((V3 5 (-2 - V3 17 a1)) + V3 16 a1) - 4) a2 V3 Z4 (fun x22 V24 Z25 =>  Q (-1) V24 Z25 ))))) )
def w1_lessLeft_J80 (wc : Wc) (b0 : Int) (V : Mv) (Z : Le) (Q : Po) : Prop :=
  Q b0 V Z
def w1_lessLeft (wc : Wc) (a1 : Int) (a2 : Int) (V : Mv) (Z : Le) (Q : Po) : Prop :=
  xL V Z 38 a1 fun _ => xL V Z 20 (V 38 a1) fun _ => xA ((V 20 (V 38 a1)) - 1) fun _ => xS V Z 20 (V 38 a1) ((V 20 (V 38 a1)) - 1) fun V2 => xL V2 Z 20 (V 38 a1) fun _ => xI ((V2 20 (V 38 a1)) = 0) (xI (a2 = 0) (xA (a1 + 2) fun _ => xL V2 Z 38 (a1 + 2) fun _ => xA (a1 + 4) fun _ => xA (a1 + 1) fun _ => xL V2 Z 38 (a1 + 1) fun _ => w1_holder 4 (a1 + 4) (V2 38 (a1 + 1)) V2 Z (fun x7 V9 Z10 =>  wc (V2 38 (a1 + 2)) x7 V9 Z10 (fun x13 V15 Z16 =>  w1_lessLeft_J80 wc x13 V15 Z16 Q ) )) (xA (a1 + 3) fun _ => xL V2 Z 38 (a1 + 3) fun _ => w1_manyError a1 V2 Z (fun x20 V22 Z23 =>  wc (V2 38 (a1 + 3)) x20 V22 Z23 (fun x26 V28 Z29 =>  w1_lessLeft_J80 wc x26 V28 Z29 Q ) ))) (Q (-1) V2 Z)
def w1_wrapped_J24 (wc : Wc) (a1 : Int) (V : Mv) (Z : Le) (Q : Po) : Prop :=
  w1_newPromise  V Z (fun x1 V3 Z4 =>  w1_functionsOf x1 V3 Z4 (fun x7 V9 Z10 =>  wc x7 a1 V9 Z10 (fun x13 V15 Z16 =>  Q x1 V15 Z16 ) ) )
def w1_wrapped (wc : Wc) (a1 : Int) (V : Mv) (Z : Le) (Q : Po) : Prop :=
  xI (a1 < -1) (xA (-2 - a1) fun _ => xL V Z 0 (-2 - a1) fun _ => xI ((V 0 (-2 - a1)) = 0) (xA (-2 - a1) fun _ => Q (-2 - a1) V Z) (w1_wrapped_J24 wc a1 V Z Q)) (w1_wrapped_J24 wc a1 V Z Q)
def w1_element_J134 (wc : Wc) (b1 : Int) (b2 : Int) (V : Mv) (Z : Le) (Q : Po) : Prop :=
  w1_lessLeft wc b1 b2 V Z (fun x1 V3 Z4 =>  Q x1 V3 Z4 )
def w1_element_J103 (wc : Wc) (a1 : Int) (a3 : Int) (a4 : Int) (a5 : Int) (V : Mv) (Z : Le) (Q : Po) : Prop :=
  xA (a3 + 4) fun _ => xL V Z 17 a1 fun _ => xA ((a3 + 4) + V 17 a1) fun _ => xS V Z 38 ((a3 + 4) + V 17 a1) a5 fun V9 => xI (a4 = 6) (w1_element_J134 wc a3 1 V9 Z Q) (w1_element_J134 wc a3 0 V9 Z Q)
def w1_element_J82 (wc : Wc) (a1 : Int) (a2 : Int) (a3 : Int) (a4 : Int) (a6 : Int) (b1 : Int) (b2 : Int) (V : Mv) (Z : Le) (Q : Po) : Prop :=
  xS V Z 38 b1 b2 fun V11 => xA (a6 + 1) fun _ => xS V11 Z 38 (a6 + 1) a2 fun V14 => w1_holder 5 a6 2 V14 Z (fun x16 V18 Z19 =>  w1_element_J103 wc a1 a3 a4 x16 V18 Z19 Q )
def w1_element_J58 (wc : Wc) (a1 : Int) (a2 : Int) (a3 : Int) (a4 : Int) (V : Mv) (Z : Le) (Q : Po) : Prop :=
  w1_row 2 V Z (fun x22 V24 Z25 =>  xI (a4 = 4) (w1_element_J82 wc a1 a2 a3 a4 x22 x22 1 V24 Z25 Q) (w1_element_J82 wc a1 a2 a3 a4 x22 x22 0 V24 Z25 Q) )
def w1_element (wc : Wc) (a1 : Int) (a2 : Int) (V : Mv) (Z : Le) (Q : Po) : Prop :=
  xL V Z 18 a1 fun _ => xL V Z 20 (V 18 a1) fun _ => xI ((V 20 (V 18 a1)) = 0) (xL V Z 18 a1 fun _ => xS V Z 20 (V 18 a1) 1 fun V28 => xL V28 Z 16 a1 fun _ => xL V28 Z 15 a1 fun _ => xI (V28 15 a1 = 4) (w1_element_J58 wc a1 a2 (V28 16 a1) (V28 15 a1) V28 Z Q) (xI (V28 15 a1 = 5) (w1_element_J58 wc a1 a2 (V28 16 a1) (V28 15 a1) V28 Z Q) (w1_element_J103 wc a1 (V28 16 a1) (V28 15 a1) a2 V28 Z Q))) (Q (-1) V Z)
def w1_call_J135 (wc : Wc) (V : Mv) (Z : Le) (Q : Po) : Prop :=
  Q (-1) V Z
def w1_call_J71 (wc : Wc) (a1 : Int) (a2 : Int) (V : Mv) (Z : Le) (Q : Po) : Prop :=
  xL V Z 17 a1 fun _ => xL V Z 20 (V 17 a1) fun _ => xI ((V 20 (V 17 a1)) = 0) (xL V Z 17 a1 fun _ => xS V Z 20 (V 17 a1) 1 fun V1 => xL V1 Z 15 a1 fun _ => xI (V1 15 a1 = 1) (xL V1 Z 16 a1 fun _ => w1_resolve (V1 16 a1) a2 V1 Z (fun _ V11 Z12 =>  w1_call_J135 wc  V11 Z12 Q )) (xL V1 Z 16 a1 fun _ => w1_settle_2 (V1 16 a1) 2 a2 V1 Z (fun _ V5 Z6 =>  w1_call_J135 wc  V5 Z6 Q ))) (Q (-1) V Z)
def w1_call_J137 (wc : Wc) (a1 : Int) (a2 : Int) (V : Mv) (Z : Le) (Q : Po) : Prop :=
  w1_element wc a1 a2 V Z (fun x15 V17 Z18 =>  Q x15 V17 Z18 )
def w1_call_J194 (wc : Wc) (a2 : Int) (b1 : Int) (b3 : Int) (V : Mv) (Z : Le) (Q : Po) : Prop :=
  w1_function b3 a2 0 0 V Z (fun x21 V23 Z24 =>  w1_then b1 x21 (-1) V23 Z24 (fun x27 V29 Z30 =>  xA (-2 - x27) fun _ => Q (-2 - x27) V29 Z30 ) )
def w1_call_J144 (wc : Wc) (a1 : Int) (a2 : Int) (V : Mv) (Z : Le) (Q : Po) : Prop :=
  xL V Z 16 a1 fun _ => wc (V 16 a1) (-1) V Z (fun x34 V36 Z37 =>  xI (V36 54 0 = 0) (w1_wrapped wc x34 V36 Z37 (fun x40 V42 Z43 =>  xL V42 Z43 15 a1 fun _ => xI (V42 15 a1 = 7) (w1_call_J194 wc a2 x40 9 V42 Z43 Q) (w1_call_J194 wc a2 x40 10 V42 Z43 Q) )) (Q x34 V36 Z37) )
def w1_callF (wc : Wc) (a1 : Int) (a2 : Int) (V : Mv) (Z : Le) (Q : Po) : Prop :=
  xZ V 54 0 fun V46 => xL V46 Z 15 a1 fun _ => xI (V46 15 a1 = 0) (w1_user wc a1 a2 V46 Z (fun x48 V50 Z51 =>  Q x48 V50 Z51 )) (xI (V46 15 a1 = 1) (w1_call_J71 wc a1 a2 V46 Z Q) (xI (V46 15 a1 = 2) (w1_call_J71 wc a1 a2 V46 Z Q) (xI (V46 15 a1 = 3) (w1_call_J137 wc a1 a2 V46 Z Q) (xI (V46 15 a1 = 4) (w1_call_J137 wc a1 a2 V46 Z Q) (xI (V46 15 a1 = 5) (w1_call_J137 wc a1 a2 V46 Z Q) (xI (V46 15 a1 = 6) (w1_call_J137 wc a1 a2 V46 Z Q) (xI (V46 15 a1 = 7) (w1_call_J144 wc a1 a2 V46 Z Q) (xI (V46 15 a1 = 8) (w1_call_J144 wc a1 a2 V46 Z Q) (xI (V46 15 a1 = 9) (xL V46 Z 16 a1 fun _ => Q (V46 16 a1) V46 Z) (xL V46 Z 16 a1 fun _ => w1_raise (V46 16 a1) V46 Z (fun x54 V56 Z57 =>  Q x54 V56 Z57 )))))))))))
def w1_call : Nat → Wc
  | 0 => fun _ _ _ _ _ => False
  | n + 1 => fun a1 a2 V Z Q => w1_callF (w1_call n) a1 a2 V Z Q
def w1_callThen_J155 (V : Mv) (Z : Le) (Q : Po) : Prop :=
  Q 0 V Z
def w1_callThen_J149 (L : Int → Int → Int → Int → Mv → Le → Prop) (a1 : Int) (a2 : Int) (a3 : Int) (a4 : Int) (V : Mv) (Z : Le) (Q : Po) : Prop :=
  xA (a4 + 1) fun _ =>  L a1 a2 a3 (a4 + 1) V Z
def w1_callThen_J128 (L : Int → Int → Int → Int → Mv → Le → Prop) (a1 : Int) (a2 : Int) (a3 : Int) (a4 : Int) (a5 : Int) (a6 : Int) (V : Mv) (Z : Le) (Q : Po) : Prop :=
  xZ V 54 0 fun V2 => xI (a5 = 3) (w1_raise a6 V2 Z (fun x4 V6 Z7 =>  xF V6 55 x4 fun V10 => w1_callThen_J149 L a1 a2 a3 a4 V10 Z7 Q )) (w1_callThen_J149 L a1 a2 a3 a4 V2 Z Q)
def w1_callThen_J72 (L : Int → Int → Int → Int → Mv → Le → Prop) (a1 : Int) (a2 : Int) (a3 : Int) (a4 : Int) (a5 : Int) (b0 : Int) (V : Mv) (Z : Le) (Q : Po) : Prop :=
  xI (a5 = 1) (w1_call 3 a2 b0 V Z (fun x22 V24 Z25 =>  w1_callThen_J128 L a1 a2 a3 a4 a5 b0 V24 Z25 Q )) (xI (a5 = 2) (w1_call 3 a3 b0 V Z (fun x16 V18 Z19 =>  w1_callThen_J128 L a1 a2 a3 a4 a5 b0 V18 Z19 Q )) (xI (a5 = 4) (xS V Z 13 a1 a2 fun V12 => xS V12 Z 14 a1 a3 fun V14 => w1_callThen_J128 L a1 a2 a3 a4 a5 b0 V14 Z Q) (w1_callThen_J128 L a1 a2 a3 a4 a5 b0 V Z Q)))
def w1_callThen_J50 (L : Int → Int → Int → Int → Mv → Le → Prop) (a1 : Int) (a2 : Int) (a3 : Int) (a4 : Int) (b0 : Int) (V : Mv) (Z : Le) (Q : Po) : Prop :=
  xI (a4 = 0) (xL V Z 10 a1 fun _ => w1_callThen_J72 L a1 a2 a3 a4 b0 (V 10 a1) V Z Q) (xL V Z 12 a1 fun _ => w1_callThen_J72 L a1 a2 a3 a4 b0 (V 12 a1) V Z Q)
def w1_callThen_L17 (Q : Po) : Nat → Int → Int → Int → Int → Mv → Le → Prop
  | 0, _, _, _, _, _, _ => False
  | n + 1, a1, a2, a3, a4, V, Z => xI (a4 < 2) (xI (V 54 0 = 0) (xI (a4 = 0) (xL V Z 9 a1 fun _ => w1_callThen_J50 (w1_callThen_L17 Q n) a1 a2 a3 a4 (V 9 a1) V Z Q) (xL V Z 11 a1 fun _ => w1_callThen_J50 (w1_callThen_L17 Q n) a1 a2 a3 a4 (V 11 a1) V Z Q)) (w1_callThen_J155  V Z Q)) (w1_callThen_J155  V Z Q)
def w1_callThen (a1 : Int) (a2 : Int) (a3 : Int) (V : Mv) (Z : Le) (Q : Po) : Prop :=
  xZ V 54 0 fun V28 => xA (-2 - a1) fun _ => w1_log_2 (-2 - a1) (-1) V28 Z (fun _ V33 Z34 =>  ∃ n, w1_callThen_L17 Q n a1 a2 a3 0 V33 Z34 )
def w1_goOn_J66 (a1 : Int) (V : Mv) (Z : Le) (Q : Po) : Prop :=
  xL V Z 42 a1 fun _ => xL V Z 43 a1 fun _ => xI (V 42 a1 = V 43 a1) (xL V Z 46 a1 fun _ => xL V Z 45 a1 fun _ => w1_call 3 (V 46 a1) (V 45 a1) V Z (fun x22 V24 Z25 =>  Q 0 V24 Z25 )) (xL V Z 42 a1 fun _ => xL V Z 38 (V 42 a1) fun _ => w1_wrapped (w1_call 3) (V 38 (V 42 a1)) V Z (fun x1 V3 Z4 =>  xL V3 Z4 42 a1 fun _ => xA (V3 42 a1 + 1) fun _ => xS V3 Z4 42 a1 (V3 42 a1 + 1) fun V8 => w1_wait (-1) (-1) (-1) (-1) a1 V8 Z4 (fun x10 V12 Z13 =>  w1_perform x1 x10 V12 Z13 (fun _ V18 Z19 =>  Q 0 V18 Z19 ) ) ))
def w1_goOn (a1 : Int) (a2 : Int) (a3 : Int) (V : Mv) (Z : Le) (Q : Po) : Prop :=
  xI (a2 = 2) (xL V Z 47 a1 fun _ => w1_call 3 (V 47 a1) a3 V Z (fun x40 V42 Z43 =>  Q 0 V42 Z43 )) (xI (a2 = 1) (xL V Z 44 a1 fun _ => xI (V 44 a1 < 0) (w1_goOn_J66 a1 V Z Q) (xL V Z 44 a1 fun _ => w1_call 3 (V 44 a1) a3 V Z (fun x28 V30 Z31 =>  xI (V30 54 0 = 0) (w1_goOn_J66 a1 V30 Z31 Q) (xL V30 Z31 47 a1 fun _ => w1_call 3 (V30 47 a1) x28 V30 Z31 (fun x34 V36 Z37 =>  Q 0 V36 Z37 )) ))) (w1_goOn_J66 a1 V Z Q))
def w1_job_J218 (V : Mv) (Z : Le) (Q : Po) : Prop :=
  Q 0 V Z
def w1_job_J212 (a7 : Int) (b1 : Int) (V : Mv) (Z : Le) (Q : Po) : Prop :=
  w1_call 3 b1 a7 V Z (fun x1 V3 Z4 =>  w1_job_J218  V3 Z4 Q )
def w1_job_J182 (a2 : Int) (a6 : Int) (a7 : Int) (V : Mv) (Z : Le) (Q : Po) : Prop :=
  xL V Z 24 a2 fun _ => xI (V 24 a2 < 0) (w1_job_J218  V Z Q) (xI (a6 = 0) (xL V Z 24 a2 fun _ => w1_job_J212 a7 (V 24 a2) V Z Q) (xL V Z 25 a2 fun _ => w1_job_J212 a7 (V 25 a2) V Z Q))
def w1_job_J155 (a2 : Int) (a4 : Int) (a5 : Int) (b0 : Int) (V : Mv) (Z : Le) (Q : Po) : Prop :=
  xI (a5 < 0) (w1_job_J182 a2 b0 a4 V Z Q) (w1_call 3 a5 a4 V Z (fun x7 V9 Z10 =>  w1_job_J182 a2 (V9 54 0) x7 V9 Z10 Q ))
def w1_job_J154 (a2 : Int) (a4 : Int) (a5 : Int) (V : Mv) (Z : Le) (Q : Po) : Prop :=
  w1_job_J155 a2 a4 a5 0 V Z Q
def w1_job_J138 (a2 : Int) (a3 : Int) (a4 : Int) (b0 : Int) (V : Mv) (Z : Le) (Q : Po) : Prop :=
  xI (b0 < 0) (xI (a3 = 2) (w1_job_J155 a2 a4 b0 1 V Z Q) (w1_job_J154 a2 a4 b0 V Z Q)) (w1_job_J154 a2 a4 b0 V Z Q)
def w1_job_J94 (V : Mv) (Z : Le) (Q : Po) : Prop :=
  Q 0 V Z
def w1_job (a1 : Int) (V : Mv) (Z : Le) (Q : Po) : Prop :=
  xL V Z 29 a1 fun _ => xL V Z 30 a1 fun _ => xL V Z 31 a1 fun _ => xI (V 29 a1 < 0) (xA ((-1) - V 29 a1) fun _ => w1_functionsOf (V 30 a1) V Z (fun x20 V22 Z23 =>  xL V22 Z23 0 ((-1) - V 29 a1) fun _ => xI ((V22 0 ((-1) - V 29 a1)) = 0) (xA (x20 + 1) fun _ => w1_then ((-1) - V 29 a1) x20 (x20 + 1) V22 Z23 (fun x41 V43 Z44 =>  Q 0 V43 Z44 )) (xA (x20 + 1) fun _ => w1_callThen ((-1) - V 29 a1) x20 (x20 + 1) V22 Z23 (fun _ V29 Z30 =>  xI (V29 54 0 = 0) (w1_job_J94  V29 Z30 Q) (xA (x20 + 1) fun _ => w1_call 3 (x20 + 1) (V29 55 0) V29 Z30 (fun x34 V36 Z37 =>  w1_job_J94  V36 Z37 Q )) )) )) (xL V Z 26 (V 29 a1) fun _ => xI ((V 26 (V 29 a1)) < 0) (xI (V 30 a1 = 1) (xL V Z 22 (V 29 a1) fun _ => w1_job_J138 (V 29 a1) (V 30 a1) (V 31 a1) (V 22 (V 29 a1)) V Z Q) (xL V Z 23 (V 29 a1) fun _ => w1_job_J138 (V 29 a1) (V 30 a1) (V 31 a1) (V 23 (V 29 a1)) V Z Q)) (xL V Z 26 (V 29 a1) fun _ => w1_goOn (V 26 (V 29 a1)) (V 30 a1) (V 31 a1) V Z (fun _ V15 Z16 =>  Q 0 V15 Z16 )))
def w1_room (a1 : Int) (V : Mv) (Z : Le) (Q : Int → Prop) (PX : Px) : Prop :=
  xA (V 7 0 + a1) fun _ => xI (3000 < (V 7 0 + a1)) (xT 1 V Z PX) (Q 0)
def w1_isValue_J36 (b0 : Int) (V : Mv) (Z : Le) (Q : Int → Prop) (PX : Px) : Prop :=
  xR b0 (Q b0)
def w1_isValue (a1 : Int) (V : Mv) (Z : Le) (Q : Int → Prop) (PX : Px) : Prop :=
  xI (a1 < (-1)) (xA (-2 - a1) fun _ => xI ((-2 - a1) < V 7 0) (w1_isValue_J36 1 V Z Q PX) (w1_isValue_J36 0 V Z Q PX)) (xI (a1 < 1000) (w1_isValue_J36 1 V Z Q PX) (w1_isValue_J36 0 V Z Q PX))
def w1_promiseOf_J35 (a1 : Int) (b0 : Int) (V : Mv) (Z : Le) (Q : Int → Prop) (PX : Px) : Prop :=
  xN b0 V Z PX <| xA (-2 - a1) fun _ => Q (-2 - a1)
def w1_promiseOf_J34 (a1 : Int) (V : Mv) (Z : Le) (Q : Int → Prop) (PX : Px) : Prop :=
  w1_promiseOf_J35 a1 0 V Z Q PX
def w1_promiseOf (a1 : Int) (V : Mv) (Z : Le) (Q : Int → Prop) (PX : Px) : Prop :=
  xI (a1 < -1) (xA (-2 - a1) fun _ => xI ((-2 - a1) < V 7 0) (xA (-2 - a1) fun _ => xL V Z 0 (-2 - a1) fun _ => xI ((V 0 (-2 - a1)) = 0) (w1_promiseOf_J35 a1 1 V Z Q PX) (w1_promiseOf_J34 a1 V Z Q PX)) (w1_promiseOf_J34 a1 V Z Q PX)) (w1_promiseOf_J34 a1 V Z Q PX)
def w1_handlerOf_J35 (b0 : Int) (V : Mv) (Z : Le) (Q : Int → Prop) (PX : Px) : Prop :=
  Q b0
def w1_handlerOf_J18 (a1 : Int) (b0 : Int) (V : Mv) (Z : Le) (Q : Int → Prop) (PX : Px) : Prop :=
  xN b0 V Z PX <| xI (a1 < 0) (w1_handlerOf_J35 (-1) V Z Q PX) (xL V Z 49 a1 fun _ => w1_handlerOf_J35 (V 49 a1) V Z Q PX)
def w1_handlerOf_J17 (a1 : Int) (V : Mv) (Z : Le) (Q : Int → Prop) (PX : Px) : Prop :=
  w1_handlerOf_J18 a1 0 V Z Q PX
def w1_handlerOf (a1 : Int) (V : Mv) (Z : Le) (Q : Int → Prop) (PX : Px) : Prop :=
  xI (a1 < (-1)) (w1_handlerOf_J17 a1 V Z Q PX) (xI (a1 < V 50 0) (w1_handlerOf_J18 a1 1 V Z Q PX) (w1_handlerOf_J17 a1 V Z Q PX))
def w1_promise (V : Mv) (Z : Le) (Q : Po) (PX : Px) : Prop :=
  w1_room 8 V Z (fun _ =>  w1_newPromise  V Z (fun x3 V5 Z6 =>  w1_functionsOf x3 V5 Z6 (fun x9 V11 Z12 =>  xS V11 Z12 5 x3 x9 fun V15 => xA (-2 - x3) fun _ => Q (-2 - x3) V15 Z12 ) ) ) PX
def w1_handler_J51 (a1 : Int) (a2 : Int) (V : Mv) (Z : Le) (Q : Po) (PX : Px) : Prop :=
  xI (V 50 0 = (Z 49 : Int)) (xT 1 V Z PX) (w1_function 0 a1 a2 (V 50 0) V Z (fun x1 V3 Z4 =>  xS V3 Z4 49 (V 50 0) x1 fun V7 => xA (V7 50 0 + 1) fun _ => xF V7 50 (V7 50 0 + 1) fun V10 => xA (V10 50 0 - 1) fun _ => Q (V10 50 0 - 1) V10 Z4 ))
def w1_handler_J48 (a1 : Int) (a2 : Int) (b0 : Int) (V : Mv) (Z : Le) (Q : Po) (PX : Px) : Prop :=
  xN b0 V Z PX <| w1_handler_J51 a1 a2 V Z Q PX
def w1_handler_J22 (a1 : Int) (a2 : Int) (b0 : Int) (V : Mv) (Z : Le) (Q : Po) (PX : Px) : Prop :=
  xN b0 V Z PX <| xI (3 < a1) (w1_promiseOf a2 V Z (fun x13 =>  xL V Z 5 x13 fun _ => xI (V 5 x13 < 0) (w1_handler_J48 a1 a2 0 V Z Q PX) (w1_handler_J48 a1 a2 1 V Z Q PX) ) PX) (w1_handler_J51 a1 a2 V Z Q PX)
def w1_handler_J21 (a1 : Int) (a2 : Int) (V : Mv) (Z : Le) (Q : Po) (PX : Px) : Prop :=
  w1_handler_J22 a1 a2 0 V Z Q PX
def w1_handler (a1 : Int) (a2 : Int) (V : Mv) (Z : Le) (Q : Po) (PX : Px) : Prop :=
  xI (a1 < 0) (w1_handler_J21 a1 a2 V Z Q PX) (xI (5 < a1) (w1_handler_J21 a1 a2 V Z Q PX) (w1_isValue a2 V Z (fun x15 =>  xI (x15 = 0) (w1_handler_J21 a1 a2 V Z Q PX) (w1_handler_J22 a1 a2 1 V Z Q PX) ) PX))
def w1_thenable_J51 (a1 : Int) (a2 : Int) (a3 : Int) (a4 : Int) (a5 : Int) (b0 : Int) (V : Mv) (Z : Le) (Q : Po) (PX : Px) : Prop :=
  xN b0 V Z PX <| w1_room 8 V Z (fun _ =>  w1_object 1 V Z (fun x3 V5 Z6 =>  xS V5 Z6 8 x3 a1 fun V9 => xS V9 Z6 9 x3 a2 fun V11 => xS V11 Z6 10 x3 a3 fun V13 => xS V13 Z6 11 x3 a4 fun V15 => xS V15 Z6 12 x3 a5 fun V17 => xS V17 Z6 13 x3 (-1) fun V19 => xA (-2 - x3) fun _ => Q (-2 - x3) V19 Z6 ) ) PX
def w1_thenable_J50 (a1 : Int) (a2 : Int) (a3 : Int) (a4 : Int) (a5 : Int) (V : Mv) (Z : Le) (Q : Po) (PX : Px) : Prop :=
  w1_thenable_J51 a1 a2 a3 a4 a5 0 V Z Q PX
def w1_thenable (a1 : Int) (a2 : Int) (a3 : Int) (a4 : Int) (a5 : Int) (V : Mv) (Z : Le) (Q : Po) (PX : Px) : Prop :=
  xI (a1 < 0) (w1_thenable_J50 a1 a2 a3 a4 a5 V Z Q PX) (xI (2 < a1) (w1_thenable_J50 a1 a2 a3 a4 a5 V Z Q PX) (xI (a2 < 0) (w1_thenable_J50 a1 a2 a3 a4 a5 V Z Q PX) (xI (4 < a2) (w1_thenable_J50 a1 a2 a3 a4 a5 V Z Q PX) (xI (a4 < 0) (w1_thenable_J50 a1 a2 a3 a4 a5 V Z Q PX) (xI (4 < a4) (w1_thenable_J50 a1 a2 a3 a4 a5 V Z Q PX) (w1_isValue a3 V Z (fun x22 =>  xI (x22 = 0) (w1_thenable_J50 a1 a2 a3 a4 a5 V Z Q PX) (w1_isValue a5 V Z (fun x24 =>  xI (x24 = 0) (w1_thenable_J50 a1 a2 a3 a4 a5 V Z Q PX) (w1_thenable_J51 a1 a2 a3 a4 a5 1 V Z Q PX) ) PX) ) PX))))))
def w1_settle_J78 (a3 : Int) (a5 : Int) (b0 : Int) (V : Mv) (Z : Le) (Q : Po) (PX : Px) : Prop :=
  w1_call 3 a5 a3 V Z (fun x1 V3 Z4 =>  xR b0 (Q b0 V3 Z4) )
def w1_settle_J55 (a3 : Int) (b0 : Int) (b1 : Int) (V : Mv) (Z : Le) (Q : Po) (PX : Px) : Prop :=
  xA (b0 + b1) fun _ => xL V Z 17 (b0 + b1) fun _ => xL V Z 20 (V 17 (b0 + b1)) fun _ => xI ((V 20 (V 17 (b0 + b1))) = 0) (w1_settle_J78 a3 (b0 + b1) 1 V Z Q PX) (w1_settle_J78 a3 (b0 + b1) 0 V Z Q PX)
def w1_settle_J30 (a2 : Int) (a3 : Int) (a4 : Int) (b0 : Int) (V : Mv) (Z : Le) (Q : Po) (PX : Px) : Prop :=
  xN b0 V Z PX <| w1_room 8 V Z (fun _ =>  xL V Z 5 a4 fun _ => xI (a2 = 0) (w1_settle_J55 a3 (V 5 a4) 0 V Z Q PX) (w1_settle_J55 a3 (V 5 a4) 1 V Z Q PX) ) PX
def w1_settle (a1 : Int) (a2 : Int) (a3 : Int) (V : Mv) (Z : Le) (Q : Po) (PX : Px) : Prop :=
  w1_isValue a3 V Z (fun x10 =>  xN x10 V Z PX <| w1_promiseOf a1 V Z (fun x12 =>  xL V Z 5 x12 fun _ => xI (V 5 x12 < 0) (w1_settle_J30 a2 a3 x12 0 V Z Q PX) (w1_settle_J30 a2 a3 x12 1 V Z Q PX) ) PX ) PX
def w1_later_J170 (b0 : Int) (V : Mv) (Z : Le) (Q : Po) (PX : Px) : Prop :=
  Q b0 V Z
def w1_later_J150 (a3 : Int) (a5 : Int) (b0 : Int) (V : Mv) (Z : Le) (Q : Po) (PX : Px) : Prop :=
  w1_call 3 a5 a3 V Z (fun x1 V3 Z4 =>  xI (b0 = 0) (w1_later_J170 0 V3 Z4 Q PX) (w1_later_J170 1 V3 Z4 Q PX) )
def w1_later_J133 (a3 : Int) (a5 : Int) (b0 : Int) (V : Mv) (Z : Le) (Q : Po) (PX : Px) : Prop :=
  xL V Z 20 b0 fun _ => xI (V 20 b0 = 0) (w1_later_J150 a3 a5 1 V Z Q PX) (w1_later_J150 a3 a5 0 V Z Q PX)
def w1_later_J116 (a3 : Int) (a5 : Int) (V : Mv) (Z : Le) (Q : Po) (PX : Px) : Prop :=
  xL V Z 17 a5 fun _ => w1_later_J133 a3 a5 (V 17 a5) V Z Q PX
def w1_later_J92 (a3 : Int) (b0 : Int) (V : Mv) (Z : Le) (Q : Po) (PX : Px) : Prop :=
  xL V Z 15 b0 fun _ => xI (V 15 b0 = 1) (w1_later_J116 a3 b0 V Z Q PX) (xL V Z 15 b0 fun _ => xI (V 15 b0 = 2) (w1_later_J116 a3 b0 V Z Q PX) (xL V Z 18 b0 fun _ => w1_later_J133 a3 b0 (V 18 b0) V Z Q PX))
def w1_later_J44 (a1 : Int) (a2 : Int) (a3 : Int) (b0 : Int) (V : Mv) (Z : Le) (Q : Po) (PX : Px) : Prop :=
  xN b0 V Z PX <| xA (-2 - a1) fun _ => w1_room 8 V Z (fun _ =>  xL V Z 13 (-2 - a1) fun _ => xI ((V 13 (-2 - a1)) < 0) (Q (-1) V Z) (xI (a2 = 0) (xL V Z 13 (-2 - a1) fun _ => w1_later_J92 a3 (V 13 (-2 - a1)) V Z Q PX) (xL V Z 14 (-2 - a1) fun _ => w1_later_J92 a3 (V 14 (-2 - a1)) V Z Q PX)) ) PX
def w1_later_J43 (a1 : Int) (a2 : Int) (a3 : Int) (V : Mv) (Z : Le) (Q : Po) (PX : Px) : Prop :=
  w1_later_J44 a1 a2 a3 0 V Z Q PX
def w1_later (a1 : Int) (a2 : Int) (a3 : Int) (V : Mv) (Z : Le) (Q : Po) (PX : Px) : Prop :=
  w1_isValue a3 V Z (fun x10 =>  xI (x10 = 0) (w1_later_J43 a1 a2 a3 V Z Q PX) (xI (a1 < -1) (xA (-2 - a1) fun _ => xI ((-2 - a1) < V 7 0) (xA (-2 - a1) fun _ => xL V Z 0 (-2 - a1) fun _ => xI ((V 0 (-2 - a1)) = 1) (w1_later_J44 a1 a2 a3 1 V Z Q PX) (w1_later_J43 a1 a2 a3 V Z Q PX)) (w1_later_J43 a1 a2 a3 V Z Q PX)) (w1_later_J43 a1 a2 a3 V Z Q PX)) ) PX
def w1_then_2_J18 (a1 : Int) (a5 : Int) (b1 : Int) (V : Mv) (Z : Le) (Q : Po) (PX : Px) : Prop :=
  w1_handlerOf b1 V Z (fun x1 =>  w1_promiseOf a1 V Z (fun x3 =>  w1_room 8 V Z (fun _ =>  w1_then x3 a5 x1 V Z (fun x7 V9 Z10 =>  xA (-2 - x7) fun _ => Q (-2 - x7) V9 Z10 ) ) PX ) PX ) PX
def w1_then_2 (a1 : Int) (a2 : Int) (a3 : Int) (a4 : Int) (V : Mv) (Z : Le) (Q : Po) (PX : Px) : Prop :=
  w1_handlerOf a2 V Z (fun x14 =>  xI (a4 = 0) (w1_then_2_J18 a1 x14 (-1) V Z Q PX) (w1_then_2_J18 a1 x14 a3 V Z Q PX) ) PX
def w1_lastly (a1 : Int) (a2 : Int) (V : Mv) (Z : Le) (Q : Po) (PX : Px) : Prop :=
  w1_handlerOf a2 V Z (fun x1 =>  w1_promiseOf a1 V Z (fun x3 =>  w1_room 8 V Z (fun _ =>  xI (x1 < 0) (w1_then x3 (-1) (-1) V Z (fun x26 V28 Z29 =>  xA (-2 - x26) fun _ => Q (-2 - x26) V28 Z29 )) (w1_function 7 x1 0 0 V Z (fun x7 V9 Z10 =>  w1_function 8 x1 0 0 V9 Z10 (fun x13 V15 Z16 =>  w1_then x3 x7 x13 V15 Z16 (fun x19 V21 Z22 =>  xA (-2 - x19) fun _ => Q (-2 - x19) V21 Z22 ) ) )) ) PX ) PX ) PX
def w1_wrap (a1 : Int) (V : Mv) (Z : Le) (Q : Po) (PX : Px) : Prop :=
  w1_isValue a1 V Z (fun x1 =>  xN x1 V Z PX <| w1_room 8 V Z (fun _ =>  w1_wrapped (w1_call 3) a1 V Z (fun x5 V7 Z8 =>  xA (-2 - x5) fun _ => Q (-2 - x5) V7 Z8 ) ) PX ) PX
def w1_broken (a1 : Int) (V : Mv) (Z : Le) (Q : Po) (PX : Px) : Prop :=
  w1_isValue a1 V Z (fun x1 =>  xN x1 V Z PX <| w1_room 8 V Z (fun _ =>  w1_newPromise  V Z (fun x5 V7 Z8 =>  w1_functionsOf x5 V7 Z8 (fun x11 V13 Z14 =>  xA (x11 + 1) fun _ => w1_call 3 (x11 + 1) a1 V13 Z14 (fun x18 V20 Z21 =>  xA (-2 - x5) fun _ => Q (-2 - x5) V20 Z21 ) ) ) ) PX ) PX
def w1_item (a1 : Int) (V : Mv) (Z : Le) (Q : Po) (PX : Px) : Prop :=
  w1_isValue a1 V Z (fun x1 =>  xN x1 V Z PX <| xI (V 41 0 = (Z 40 : Int)) (xT 1 V Z PX) (xS V Z 40 (V 41 0) a1 fun V3 => xA (V3 41 0 + 1) fun _ => xF V3 41 (V3 41 0 + 1) fun V6 => Q (V6 41 0) V6 Z) ) PX
def w1_combine_J274 (a3 : Int) (V : Mv) (Z : Le) (Q : Po) (PX : Px) : Prop :=
  xA (-2 - a3) fun _ => Q (-2 - a3) V Z
def w1_combine_J270 (a3 : Int) (b1 : Int) (b2 : Int) (V : Mv) (Z : Le) (Q : Po) (PX : Px) : Prop :=
  w1_lessLeft (w1_call 3) b1 b2 V Z (fun x2 V4 Z5 =>  w1_combine_J274 a3 V4 Z5 Q PX )
def w1_combine_J235 (L : Int → Int → Int → Int → Int → Int → Mv → Le → Prop) (a1 : Int) (a2 : Int) (a3 : Int) (a4 : Int) (a5 : Int) (a6 : Int) (a7 : Int) (a8 : Int) (a9 : Int) (V : Mv) (Z : Le) (Q : Po) (PX : Px) : Prop :=
  w1_then a7 a8 a9 V Z (fun x8 V10 Z11 =>  xA (a6 + 1) fun _ =>  L a1 a2 a3 a4 a5 (a6 + 1) V10 Z11 )
def w1_combine_J219 (L : Int → Int → Int → Int → Int → Int → Mv → Le → Prop) (a1 : Int) (a2 : Int) (a3 : Int) (a4 : Int) (a5 : Int) (a6 : Int) (a7 : Int) (a8 : Int) (a9 : Int) (V : Mv) (Z : Le) (Q : Po) (PX : Px) : Prop :=
  xL V Z 38 a5 fun _ => xL V Z 20 (V 38 a5) fun _ => xA ((V 20 (V 38 a5)) + 1) fun _ => xS V Z 20 (V 38 a5) ((V 20 (V 38 a5)) + 1) fun V16 => w1_combine_J235 L a1 a2 a3 a4 a5 a6 a7 a8 a9 V16 Z Q PX
def w1_combine_L110 (Q : Po) (PX : Px) : Nat → Int → Int → Int → Int → Int → Int → Mv → Le → Prop
  | 0, _, _, _, _, _, _, _, _ => False
  | n + 1, a1, a2, a3, a4, a5, a6, V, Z => xI (a6 < a2) (xL V Z 40 a6 fun _ => w1_wrapped (w1_call 3) (V 40 a6) V Z (fun x18 V20 Z21 =>  xA (a4 + 1) fun _ => xI (a1 < 3) (w1_newCell 0 V20 Z21 (fun x25 V27 Z28 =>  xI (a1 = 0) (w1_function 3 a5 a6 x25 V27 Z28 (fun x49 V51 Z52 =>  w1_combine_J219 (w1_combine_L110 Q PX n) a1 a2 a3 a4 a5 a6 x18 x49 (a4 + 1) V51 Z52 Q PX )) (xI (a1 = 2) (w1_function 6 a5 a6 x25 V27 Z28 (fun x43 V45 Z46 =>  w1_combine_J219 (w1_combine_L110 Q PX n) a1 a2 a3 a4 a5 a6 x18 a4 x43 V45 Z46 Q PX )) (w1_function 4 a5 a6 x25 V27 Z28 (fun x31 V33 Z34 =>  w1_function 5 a5 a6 x25 V33 Z34 (fun x37 V39 Z40 =>  w1_combine_J219 (w1_combine_L110 Q PX n) a1 a2 a3 a4 a5 a6 x18 x31 x37 V39 Z40 Q PX ) ))) )) (w1_combine_J235 (w1_combine_L110 Q PX n) a1 a2 a3 a4 a5 a6 x18 a4 (a4 + 1) V20 Z21 Q PX) )) (xI (a1 < 3) (xI (a1 = 2) (w1_combine_J270 a3 a5 1 V Z Q PX) (w1_combine_J270 a3 a5 0 V Z Q PX)) (w1_combine_J274 a3 V Z Q PX))
def w1_combine_J14 (a1 : Int) (b0 : Int) (V : Mv) (Z : Le) (Q : Po) (PX : Px) : Prop :=
  xN b0 V Z PX <| xA (2 * V 41 0) fun _ => xA (8 + (2 * V 41 0)) fun _ => w1_room (8 + (2 * V 41 0)) V Z (fun _ =>  xF V 41 0 fun V59 => w1_newPromise  V59 Z (fun x61 V63 Z64 =>  w1_functionsOf x61 V63 Z64 (fun x67 V69 Z70 =>  xA (4 + V 41 0) fun _ => w1_row (4 + V 41 0) V69 Z70 (fun x74 V76 Z77 =>  w1_newCell 1 V76 Z77 (fun x80 V82 Z83 =>  xS V82 Z83 38 x74 x80 fun V86 => xA (x74 + 1) fun _ => xS V86 Z83 38 (x74 + 1) (V 41 0) fun V89 => xA (x74 + 2) fun _ => xS V89 Z83 38 (x74 + 2) x67 fun V92 => xA (x74 + 3) fun _ => xA (x67 + 1) fun _ => xS V92 Z83 38 (x74 + 3) (x67 + 1) fun V96 => ∃ n, w1_combine_L110 Q PX n a1 (V 41 0) x61 x67 x74 0 V96 Z83 ) ) ) ) ) PX
def w1_combine_J13 (a1 : Int) (V : Mv) (Z : Le) (Q : Po) (PX : Px) : Prop :=
  w1_combine_J14 a1 0 V Z Q PX
def w1_combine (a1 : Int) (V : Mv) (Z : Le) (Q : Po) (PX : Px) : Prop :=
  xI (a1 < 0) (w1_combine_J13 a1 V Z Q PX) (xI (3 < a1) (w1_combine_J13 a1 V Z Q PX) (w1_combine_J14 a1 1 V Z Q PX))
def w1_async_L192 (Q : Po) (PX : Px) : Nat → Int → Int → Int → Int → Int → Int → Int → Mv → Le → Prop
  | 0, _, _, _, _, _, _, _, _, _ => False
  | n + 1, a1, a3, a4, a5, a6, a7, a8, V, Z => xI (a8 < a4) (xL V Z 42 a7 fun _ => xA (V 42 a7 + a8) fun _ => xL V Z 40 a8 fun _ => xS V Z 38 (V 42 a7 + a8) (V 40 a8) fun V18 => xA (a8 + 1) fun _ =>  w1_async_L192 Q PX n a1 a3 a4 a5 a6 a7 (a8 + 1) V18 Z) (xS V Z 44 a7 a3 fun V1 => xS V1 Z 45 a7 a1 fun V3 => xS V3 Z 46 a7 a6 fun V5 => xA (a6 + 1) fun _ => xS V5 Z 47 a7 (a6 + 1) fun V8 => w1_goOn a7 0 (-1) V8 Z (fun _ V12 Z13 =>  xA (-2 - a5) fun _ => Q (-2 - a5) V12 Z13 ))
def w1_async_J143 (a1 : Int) (a3 : Int) (a4 : Int) (a5 : Int) (a6 : Int) (V : Mv) (Z : Le) (Q : Po) (PX : Px) : Prop :=
  xA (V 48 0 + 1) fun _ => xF V 48 (V 48 0 + 1) fun V22 => w1_row a4 V22 Z (fun x24 V26 Z27 =>  xS V26 Z27 42 (V 48 0) x24 fun V30 => xL V30 Z27 42 (V 48 0) fun _ => xA ((V30 42 (V 48 0)) + a4) fun _ => xS V30 Z27 43 (V 48 0) ((V30 42 (V 48 0)) + a4) fun V33 => ∃ n, w1_async_L192 Q PX n a1 a3 a4 a5 a6 (V 48 0) 0 V33 Z27 )
def w1_async (a1 : Int) (a2 : Int) (V : Mv) (Z : Le) (Q : Po) (PX : Px) : Prop :=
  w1_isValue a1 V Z (fun x35 =>  xN x35 V Z PX <| w1_handlerOf a2 V Z (fun x37 =>  w1_room 8 V Z (fun _ =>  xF V 41 0 fun V41 => w1_newPromise  V41 Z (fun x43 V45 Z46 =>  w1_functionsOf x43 V45 Z46 (fun x49 V51 Z52 =>  xI (V51 48 0 = (Z52 42 : Int)) (xA (2 * V51 48 0) fun _ => xG V51 Z52 42 (2 * V51 48 0) fun V56 Z57 => xG V56 Z57 43 (2 * V51 48 0) fun V60 Z61 => xG V60 Z61 44 (2 * V51 48 0) fun V64 Z65 => xG V64 Z65 45 (2 * V51 48 0) fun V68 Z69 => xG V68 Z69 46 (2 * V51 48 0) fun V72 Z73 => xG V72 Z73 47 (2 * V51 48 0) fun V76 Z77 => w1_async_J143 a1 x37 (V 41 0) x43 x49 V76 Z77 Q PX) (w1_async_J143 a1 x37 (V 41 0) x43 x49 V51 Z52 Q PX) ) ) ) PX ) PX ) PX
def w1_jobs_J87 (a2 : Int) (V : Mv) (Z : Le) (Q : Po) (PX : Px) : Prop :=
  Q a2 V Z
def w1_jobs_J33 (L : Int → Int → Mv → Le → Prop) (a1 : Int) (a2 : Int) (b1 : Int) (V : Mv) (Z : Le) (Q : Po) (PX : Px) : Prop :=
  w1_room b1 V Z (fun _ =>  xL V Z 32 (V 34 0) fun _ => xF V 34 (V 32 (V 34 0)) fun V3 => xA (V3 36 0 - 1) fun _ => xF V3 36 (V3 36 0 - 1) fun V6 => xS V6 Z 32 (V 34 0) (V6 37 0) fun V8 => xF V8 37 (V 34 0) fun V10 => xA (a2 + 1) fun _ =>  w1_job (V 34 0) V10 Z (fun _ V15 Z16 =>  L a1 (a2 + 1) V15 Z16 ) ) PX
def w1_jobs_L2 (Q : Po) (PX : Px) : Nat → Int → Int → Mv → Le → Prop
  | 0, _, _, _, _ => False
  | n + 1, a1, a2, V, Z => xI (a2 < a1) (xI (V 34 0 = 0) (w1_jobs_J87 a2 V Z Q PX) (xI (V 53 0 < 4000) (w1_jobs_J33 (w1_jobs_L2 Q PX n) a1 a2 8 V Z Q PX) (w1_jobs_J33 (w1_jobs_L2 Q PX n) a1 a2 3001 V Z Q PX))) (w1_jobs_J87 a2 V Z Q PX)
def w1_jobs (a1 : Int) (V : Mv) (Z : Le) (Q : Po) (PX : Px) : Prop :=
  ∃ n, w1_jobs_L2 Q PX n a1 0 V Z
def w1_state_J26 (b0 : Int) (b1 : Int) (V : Mv) (Z : Le) (Q : Po) (PX : Px) : Prop :=
  xA (b0 + b1) fun _ => Q (b0 + b1) V Z
def w1_state (a1 : Int) (V : Mv) (Z : Le) (Q : Po) (PX : Px) : Prop :=
  w1_promiseOf a1 V Z (fun x2 =>  xL V Z 1 x2 fun _ => xL V Z 6 x2 fun _ => xI (V 6 x2 = 0) (w1_state_J26 (V 1 x2) 0 V Z Q PX) (w1_state_J26 (V 1 x2) 4 V Z Q PX) ) PX
def w1_result_J25 (b0 : Int) (V : Mv) (Z : Le) (Q : Po) (PX : Px) : Prop :=
  Q b0 V Z
def w1_result (a1 : Int) (V : Mv) (Z : Le) (Q : Po) (PX : Px) : Prop :=
  w1_promiseOf a1 V Z (fun x1 =>  xL V Z 1 x1 fun _ => xI (V 1 x1 = 0) (w1_result_J25 (-1) V Z Q PX) (xL V Z 2 x1 fun _ => w1_result_J25 (V 2 x1) V Z Q PX) ) PX
def w1_kind_J23 (a1 : Int) (b0 : Int) (V : Mv) (Z : Le) (Q : Po) (PX : Px) : Prop :=
  xN b0 V Z PX <| xA (-2 - a1) fun _ => xL V Z 0 (-2 - a1) fun _ => Q (V 0 (-2 - a1)) V Z
def w1_kind_J22 (a1 : Int) (V : Mv) (Z : Le) (Q : Po) (PX : Px) : Prop :=
  w1_kind_J23 a1 0 V Z Q PX
def w1_kind (a1 : Int) (V : Mv) (Z : Le) (Q : Po) (PX : Px) : Prop :=
  xI (a1 < -1) (xA (-2 - a1) fun _ => xI ((-2 - a1) < V 7 0) (w1_kind_J23 a1 1 V Z Q PX) (w1_kind_J22 a1 V Z Q PX)) (w1_kind_J22 a1 V Z Q PX)
def w1_part_J92 (a2 : Int) (a3 : Int) (b0 : Int) (V : Mv) (Z : Le) (Q : Po) (PX : Px) : Prop :=
  xN b0 V Z PX <| xL V Z 1 a3 fun _ => xA (V 1 a3 + a2) fun _ => xL V Z 38 (V 1 a3 + a2) fun _ => Q (V 38 (V 1 a3 + a2)) V Z
def w1_part_J91 (a2 : Int) (a3 : Int) (V : Mv) (Z : Le) (Q : Po) (PX : Px) : Prop :=
  w1_part_J92 a2 a3 0 V Z Q PX
def w1_part_J61 (a2 : Int) (a3 : Int) (V : Mv) (Z : Le) (Q : Po) (PX : Px) : Prop :=
  xI (a2 = (-1)) (xL V Z 2 a3 fun _ => Q (V 2 a3) V Z) (xI (a2 < 0) (w1_part_J91 a2 a3 V Z Q PX) (xL V Z 2 a3 fun _ => xI (a2 < V 2 a3) (w1_part_J92 a2 a3 1 V Z Q PX) (w1_part_J91 a2 a3 V Z Q PX)))
def w1_part_J36 (a1 : Int) (a2 : Int) (b0 : Int) (V : Mv) (Z : Le) (Q : Po) (PX : Px) : Prop :=
  xN b0 V Z PX <| xA (-2 - a1) fun _ => xL V Z 0 (-2 - a1) fun _ => xI ((V 0 (-2 - a1)) = 3) (xL V Z 1 (-2 - a1) fun _ => w1_part_J61 a2 (V 1 (-2 - a1)) V Z Q PX) (w1_part_J61 a2 (-2 - a1) V Z Q PX)
def w1_part_J35 (a1 : Int) (a2 : Int) (V : Mv) (Z : Le) (Q : Po) (PX : Px) : Prop :=
  w1_part_J36 a1 a2 0 V Z Q PX
def w1_part (a1 : Int) (a2 : Int) (V : Mv) (Z : Le) (Q : Po) (PX : Px) : Prop :=
  xI (a1 < -1) (xA (-2 - a1) fun _ => xI ((-2 - a1) < V 7 0) (xA (-2 - a1) fun _ => xL V Z 0 (-2 - a1) fun _ => xI ((V 0 (-2 - a1)) < 3) (w1_part_J35 a1 a2 V Z Q PX) (w1_part_J36 a1 a2 1 V Z Q PX)) (w1_part_J35 a1 a2 V Z Q PX)) (w1_part_J35 a1 a2 V Z Q PX)
def w1_log_J12 (V : Mv) (Z : Le) (Q : Po) : Prop :=
  Q (-1000000) V Z
def w1_log_J35 (b0 : Int) (V : Mv) (Z : Le) (Q : Po) : Prop :=
  Q b0 V Z
def w1_log (a1 : Int) (a2 : Int) (V : Mv) (Z : Le) (Q : Po) : Prop :=
  xI (a1 < 0) (w1_log_J12  V Z Q) (xI (a1 < V 53 0) (xI (a2 = 0) (xL V Z 51 a1 fun _ => w1_log_J35 (V 51 a1) V Z Q) (xL V Z 52 a1 fun _ => w1_log_J35 (V 52 a1) V Z Q)) (w1_log_J12  V Z Q))
def w1_count_J68 (b0 : Int) (V : Mv) (Z : Le) (Q : Po) (PX : Px) : Prop :=
  Q b0 V Z
def w1_count_J14 (a1 : Int) (b0 : Int) (V : Mv) (Z : Le) (Q : Po) (PX : Px) : Prop :=
  xN b0 V Z PX <| xI (a1 = 0) (w1_count_J68 (V 7 0) V Z Q PX) (xI (a1 = 1) (w1_count_J68 (V 36 0) V Z Q PX) (xI (a1 = 2) (w1_count_J68 (V 53 0) V Z Q PX) (xI (a1 = 3) (w1_count_J68 (V 41 0) V Z Q PX) (w1_count_J68 (V 50 0) V Z Q PX))))
def w1_count_J13 (a1 : Int) (V : Mv) (Z : Le) (Q : Po) (PX : Px) : Prop :=
  w1_count_J14 a1 0 V Z Q PX
def w1_count (a1 : Int) (V : Mv) (Z : Le) (Q : Po) (PX : Px) : Prop :=
  xI (a1 < 0) (w1_count_J13 a1 V Z Q PX) (xI (4 < a1) (w1_count_J13 a1 V Z Q PX) (w1_count_J14 a1 1 V Z Q PX))
