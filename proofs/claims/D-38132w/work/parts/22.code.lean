/-! ===== the code of every method for the small machine: written by wip tools/gencode.py out of the decode rows ===== -/
set_option maxRecDepth 100000
def m_J0_init : Nat := 0
def m_J1_init : Nat := 1
def m_J19_intValue : Nat := 2
def m_J19_valueOf : Nat := 3
def m_J19_bitCount : Nat := 4
def m_J2_init : Nat := 5
def m_J2_add : Nat := 6
def m_J2_add_2 : Nat := 7
def m_J2_grow : Nat := 8
def m_J2_grow_2 : Nat := 9
def m_J2_size : Nat := 10
def m_J2_get : Nat := 11
def m_J2_elementData : Nat := 12
def m_J2_add_3 : Nat := 13
def m_J2_rangeCheckForAdd : Nat := 14
def m_J2_isEmpty : Nat := 15
def m_J2_remove : Nat := 16
def m_J2_fastRemove : Nat := 17
def m_J2_iterator : Nat := 18
def m_J2_clear : Nat := 19
def m_J2_addAll : Nat := 20
def m_J2_toArray : Nat := 21
def m_J2_contains : Nat := 22
def m_J2_indexOf : Nat := 23
def m_J2_indexOfRange : Nat := 24
def m_J23_init : Nat := 25
def m_J23_hasNext : Nat := 26
def m_J23_next : Nat := 27
def m_J23_checkForComodification : Nat := 28
def m_J24_equals : Nat := 29
def m_J3_newLength : Nat := 30
def m_J5_copyOf : Nat := 31
def m_J5_copyOf_2 : Nat := 32
def m_J6_checkIndex : Nat := 33
def m_J7_checkIndex : Nat := 34
def m_J8_ordinal : Nat := 35
def m_X1_init : Nat := 36
def m_X1_firstLatencies : Nat := 37
def m_X1_has : Nat := 38
def m_X1_callOf : Nat := 39
def m_X1_meanStall : Nat := 40
def m_X1_enough : Nat := 41
def m_X1_enoughNow : Nat := 42
def m_X1_buildWith : Nat := 43
def m_X1_count : Nat := 44
def m_X1_unordered : Nat := 45
def m_X1_unorderedNow : Nat := 46
def m_X1_digest : Nat := 47
def m_X1_manyNow : Nat := 48
def m_X1_freeNodes : Nat := 49
def m_X1_mix : Nat := 50
def m_X1_mixChosen : Nat := 51
def m_X1_chosenNow : Nat := 52
def m_X1_readAt : Nat := 53
def m_X1_mixValues : Nat := 54
def m_X1_lifeNow : Nat := 55
def m_X1_mixCode : Nat := 56
def m_X1_mapNow : Nat := 57
def m_X1_codeNow : Nat := 58
def m_X1_machine : Nat := 59
def m_X1_mustBeMachine : Nat := 60
def m_X1_mustBeIn : Nat := 61
def m_X1_must : Nat := 62
def m_X1_renew : Nat := 63
def m_X1_latency : Nat := 64
def m_X1_checkPlace : Nat := 65
def m_X1_node : Nat := 66
def m_X1_kindOf : Nat := 67
def m_X1_isFreeNode : Nat := 68
def m_X1_checkState : Nat := 69
def m_X1_statement : Nat := 70
def m_X1_checkBlock : Nat := 71
def m_X1_take : Nat := 72
def m_X1_times : Nat := 73
def m_X1_out : Nat := 74
def m_X1_meant : Nat := 75
def m_X1_chosen : Nat := 76
def m_X1_ofValue : Nat := 77
def m_X1_mapAt : Nat := 78
def m_X1_pointOf : Nat := 79
def m_X1_cost : Nat := 80
def m_X1_code : Nat := 81
def m_X1_begins : Nat := 82
def m_X1_answer : Nat := 83
def m_X1_many : Nat := 84
def m_X1_with : Nat := 85
def m_X1_cyclesWith : Nat := 86
def m_X10_init : Nat := 87
def m_X10_all : Nat := 88
def m_X10_writeCall : Nat := 89
def m_X10_move : Nat := 90
def m_X10_put : Nat := 91
def m_X10_put_2 : Nat := 92
def m_X10_bring : Nat := 93
def m_X10_writePlain : Nat := 94
def m_X10_readsOf : Nat := 95
def m_X10_writeTwo : Nat := 96
def m_X10_reckonIn : Nat := 97
def m_X10_reckon : Nat := 98
def m_X10_storeFrom : Nat := 99
def m_X11_init : Nat := 100
def m_X11_operand : Nat := 101
def m_X12_init : Nat := 102
def m_X12_run : Nat := 103
def m_X12_step : Nat := 104
def m_X12_firstRead : Nat := 105
def m_X12_lastRead : Nat := 106
def m_X12_act : Nat := 107
def m_X12_at : Nat := 108
def m_X12_call : Nat := 109
def m_X12_reckoned : Nat := 110
def m_X13_init : Nat := 111
def m_X13_thrown : Nat := 112
def m_X13_machine : Nat := 113
def m_X13_isNoMachine : Nat := 114
def m_X13_isIn : Nat := 115
def m_X13_start : Nat := 116
def m_X13_refuse : Nat := 117
def m_X13_latency : Nat := 118
def m_X13_isNoKind : Nat := 119
def m_X13_isNoLatency : Nat := 120
def m_X13_node : Nat := 121
def m_X13_isNode : Nat := 122
def m_X13_isFree : Nat := 123
def m_X13_statement : Nat := 124
def m_X13_isNoBlock : Nat := 125
def m_X13_isNoVariable : Nat := 126
def m_X13_isNoNode : Nat := 127
def m_X13_statements : Nat := 128
def m_X13_take : Nat := 129
def m_X13_times : Nat := 130
def m_X13_out : Nat := 131
def m_X13_meant : Nat := 132
def m_X13_chosen : Nat := 133
def m_X13_plan : Nat := 134
def m_X13_plan_2 : Nat := 135
def m_X13_has : Nat := 136
def m_X13_told : Nat := 137
def m_X13_ofValue : Nat := 138
def m_X13_told_2 : Nat := 139
def m_X13_mapAt : Nat := 140
def m_X13_mapOf : Nat := 141
def m_X13_cost : Nat := 142
def m_X13_code : Nat := 143
def m_X13_begins : Nat := 144
def m_X13_answer : Nat := 145
def m_X13_many : Nat := 146
def m_X13_count : Nat := 147
def m_X13_meanStall : Nat := 148
def m_X13_with : Nat := 149
def m_X13_withNow : Nat := 150
def m_X13_cyclesWith : Nat := 151
def m_X13_enough : Nat := 152
def m_X13_enoughNow : Nat := 153
def m_X13_unordered : Nat := 154
def m_X13_unorderedNow : Nat := 155
def m_X13_digest : Nat := 156
def m_X13_add : Nat := 157
def m_X14_init : Nat := 158
def m_X14_of : Nat := 159
def m_X14_meant : Nat := 160
def m_X14_meant_2 : Nat := 161
def m_X14_latency : Nat := 162
def m_X15_init : Nat := 163
def m_X15_scratch : Nat := 164
def m_X15_isKept : Nat := 165
def m_X16_isOfTwo : Nat := 166
def m_X16_is : Nat := 167
def m_X16_init : Nat := 168
def m_X17_init : Nat := 169
def m_X17_isOfTwo : Nat := 170
def m_X18_init : Nat := 171
def m_X19_init : Nat := 172
def m_X19_live : Nat := 173
def m_X19_timesOf : Nat := 174
def m_X19_touch : Nat := 175
def m_X19_note : Nat := 176
def m_X19_settle : Nat := 177
def m_X19_stretch : Nat := 178
def m_X19_give : Nat := 179
def m_X19_canHave : Nat := 180
def m_X19_yieldOne : Nat := 181
def m_X19_spill : Nat := 182
def m_X19_isTaken : Nat := 183
def m_X19_answer : Nat := 184
def m_X19_told : Nat := 185
def m_X19_spilled : Nat := 186
def m_X19_frame : Nat := 187
def m_X19_in : Nat := 188
def m_X19_most : Nat := 189
def m_X2_init : Nat := 190
def m_X2_at : Nat := 191
def m_X2_statements : Nat := 192
def m_X2_meant : Nat := 193
def m_X2_value : Nat := 194
def m_X20_init : Nat := 195
def m_X20_state : Nat := 196
def m_X20_add : Nat := 197
def m_X20_choose : Nat := 198
def m_X20_cost : Nat := 199
def m_X20_costNow : Nat := 200
def m_X20_plain : Nat := 201
def m_X20_smallCost : Nat := 202
def m_X20_small : Nat := 203
def m_X20_isSmall : Nat := 204
def m_X20_other : Nat := 205
def m_X20_fusedCost : Nat := 206
def m_X20_fused : Nat := 207
def m_X20_fuse : Nat := 208
def m_X20_order : Nat := 209
def m_X20_isReady : Nat := 210
def m_X20_enter : Nat := 211
def m_X20_look : Nat := 212
def m_X21_init : Nat := 213
def m_X21_needs : Nat := 214
def m_X21_reads : Nat := 215
def m_X22_init : Nat := 216
def m_X22_isIn : Nat := 217
def m_X22_goesOver : Nat := 218
def m_X22_isSpilled : Nat := 219
def m_X22_meets : Nat := 220
def m_X23_init : Nat := 221
def m_X23_lay : Nat := 222
def m_X23_layCall : Nat := 223
def m_X23_put : Nat := 224
def m_X23_bring : Nat := 225
def m_X23_store : Nat := 226
def m_X23_layTwo : Nat := 227
def m_X23_layOp : Nat := 228
def m_X24_init : Nat := 229
def m_X24_go : Nat := 230
def m_X24_pass : Nat := 231
def m_X24_step : Nat := 232
def m_X24_readyOf : Nat := 233
def m_X24_work : Nat := 234
def m_X24_lose : Nat := 235
def m_X3_init : Nat := 236
def m_X3_latency : Nat := 237
def m_X3_isSmall : Nat := 238
def m_X3_isKept : Nat := 239
def m_X3_scratch : Nat := 240
def m_X3_with : Nat := 241
def m_X3_with_2 : Nat := 242
def m_X4_init : Nat := 243
def m_X4_many : Nat := 244
def m_X4_codes : Nat := 245
def m_X4_answer : Nat := 246
def m_X5_init : Nat := 247
def m_X5_costOf : Nat := 248
def m_X5_at : Nat := 249
def m_X5_plainCost : Nat := 250
def m_X5_opOf : Nat := 251
def m_X5_smallCost : Nat := 252
def m_X5_small : Nat := 253
def m_X5_isSmall : Nat := 254
def m_X5_other : Nat := 255
def m_X5_fusedCost : Nat := 256
def m_X5_fused : Nat := 257
def m_X5_all : Nat := 258
def m_X5_emit : Nat := 259
def m_X5_emit_2 : Nat := 260
def m_X5_value : Nat := 261
def m_X5_emitFused : Nat := 262
def m_X5_entry : Nat := 263
def m_X6_init : Nat := 264
def m_X6_needsOf : Nat := 265
def m_X6_heightOf : Nat := 266
def m_X6_all : Nat := 267
def m_X6_place : Nat := 268
def m_X6_next : Nat := 269
def m_X7_init : Nat := 270
def m_X7_reads : Nat := 271
def m_X7_needs : Nat := 272
def m_X7_is : Nat := 273
def m_X8_init : Nat := 274
def m_X8_lifeOf : Nat := 275
def m_X8_timesOf : Nat := 276
def m_X8_stretch : Nat := 277
def m_X8_edge : Nat := 278
def m_X8_put : Nat := 279
def m_X8_give : Nat := 280
def m_X8_hint : Nat := 281
def m_X8_of : Nat := 282
def m_X8_placeOf : Nat := 283
def m_X8_canTake : Nat := 284
def m_X8_canHave : Nat := 285
def m_X8_isFree : Nat := 286
def m_X8_isHeld : Nat := 287
def m_X8_isLess : Nat := 288
def m_X8_giveSlots : Nat := 289
def m_X8_freeSlot : Nat := 290
def m_X8_slots : Nat := 291
def m_X8_spilled : Nat := 292
def m_X8_frame : Nat := 293
def m_X8_most : Nat := 294
def m_X9_init : Nat := 295
def m_X9_touch : Nat := 296
def m_X9_crosses : Nat := 297
def m_X9_weight : Nat := 298
def m_X9_isRemade : Nat := 299
def m_X9_meets : Nat := 300
/-! java/util/AbstractCollection.<init>()V -/
def bb_J0_init_0 : List sw_I := [sw_ld 2 0, sw_oin, sw_ret]
def b_J0_init : sw_B := fun n => match n with
  | 0 => bb_J0_init_0
  | _ => []
/-! java/util/AbstractList.<init>()V -/
def bb_J1_init_0 : List sw_I := [sw_ld 2 0, sw_ci m_J0_init 0, sw_ld 2 0, sw_push (.int 0), sw_pf 24 0 0, sw_ret]
def b_J1_init : sw_B := fun n => match n with
  | 0 => bb_J1_init_0
  | _ => []
/-! java/lang/Integer.intValue()I -/
def bb_J19_intValue_0 : List sw_I := [sw_ld 2 0, sw_gf 41 0, sw_rv 0]
def b_J19_intValue : sw_B := fun n => match n with
  | 0 => bb_J19_intValue_0
  | _ => []
/-! java/lang/Integer.valueOf(I)Ljava/lang/Integer; -/
def bb_J19_valueOf_0 : List sw_I := [sw_ld 0 0, sw_push (.int (-128)), sw_ic 2 1 [true], sw_ld 0 0, sw_push (.int 127), sw_ic 4 1 [true], sw_gs 11, sw_ld 0 0, sw_push (.int 128), sw_ii (fun x y => x + y), sw_ald 71, sw_rv 2]
def bb_J19_valueOf_1 : List sw_I := [sw_stop]
def b_J19_valueOf : sw_B := fun n => match n with
  | 0 => bb_J19_valueOf_0
  | 1 => bb_J19_valueOf_1
  | _ => []
/-! java/lang/Integer.bitCount(I)I -/
def bb_J19_bitCount_0 : List sw_I := [sw_ld 0 0, sw_ld 0 0, sw_push (.int 1), sw_ii (fun x y => (x.toUInt32 >>> (y.toUInt32 &&& Int32.toUInt32 31)).toInt32), sw_push (.int 1431655765), sw_ii (fun x y => x &&& y), sw_ii (fun x y => x - y), sw_sti 0, sw_ld 0 0, sw_push (.int 858993459), sw_ii (fun x y => x &&& y), sw_ld 0 0, sw_push (.int 2), sw_ii (fun x y => (x.toUInt32 >>> (y.toUInt32 &&& Int32.toUInt32 31)).toInt32), sw_push (.int 858993459), sw_ii (fun x y => x &&& y), sw_ii (fun x y => x + y), sw_sti 0, sw_ld 0 0, sw_ld 0 0, sw_push (.int 4), sw_ii (fun x y => (x.toUInt32 >>> (y.toUInt32 &&& Int32.toUInt32 31)).toInt32), sw_ii (fun x y => x + y), sw_push (.int 252645135), sw_ii (fun x y => x &&& y), sw_sti 0, sw_ld 0 0, sw_ld 0 0, sw_push (.int 8), sw_ii (fun x y => (x.toUInt32 >>> (y.toUInt32 &&& Int32.toUInt32 31)).toInt32), sw_ii (fun x y => x + y), sw_sti 0, sw_ld 0 0, sw_ld 0 0, sw_push (.int 16), sw_ii (fun x y => (x.toUInt32 >>> (y.toUInt32 &&& Int32.toUInt32 31)).toInt32), sw_ii (fun x y => x + y), sw_sti 0, sw_ld 0 0, sw_push (.int 63), sw_ii (fun x y => x &&& y), sw_rv 0]
def b_J19_bitCount : sw_B := fun n => match n with
  | 0 => bb_J19_bitCount_0
  | _ => []
/-! java/util/ArrayList.<init>()V -/
def bb_J2_init_0 : List sw_I := [sw_ld 2 0, sw_ci m_J1_init 0, sw_ld 2 0, sw_gs 10, sw_pf 24 1 2, sw_ret]
def b_J2_init : sw_B := fun n => match n with
  | 0 => bb_J2_init_0
  | _ => []
/-! java/util/ArrayList.add(Ljava/lang/Object;)Z -/
def bb_J2_add_0 : List sw_I := [sw_ld 2 0, sw_dup, sw_gf 24 0, sw_push (.int 1), sw_ii (fun x y => x + y), sw_pf 24 0 0, sw_ld 2 0, sw_ld 2 1, sw_ld 2 0, sw_gf 24 1, sw_ld 2 0, sw_gf 24 2, sw_cv 24 m_J2_add_2 3, sw_push (.int 1), sw_rv 1]
def b_J2_add : sw_B := fun n => match n with
  | 0 => bb_J2_add_0
  | _ => []
/-! java/util/ArrayList.add(Ljava/lang/Object;[Ljava/lang/Object;I)V -/
def bb_J2_add_2_0 : List sw_I := [sw_ld 0 3, sw_ld 2 2, sw_al, sw_ic 1 1 [true, true, true, true], sw_ld 2 0, sw_cv 24 m_J2_grow 0, sw_sta 2, sw_goto 1 [true, true, true, true]]
def bb_J2_add_2_1 : List sw_I := [sw_ld 2 2, sw_ld 0 3, sw_ld 2 1, sw_asr 67 sw_k67, sw_ld 2 0, sw_ld 0 3, sw_push (.int 1), sw_ii (fun x y => x + y), sw_pf 24 2 0, sw_ret]
def b_J2_add_2 : sw_B := fun n => match n with
  | 0 => bb_J2_add_2_0
  | 1 => bb_J2_add_2_1
  | _ => []
/-! java/util/ArrayList.grow()[Ljava/lang/Object; -/
def bb_J2_grow_0 : List sw_I := [sw_ld 2 0, sw_ld 2 0, sw_gf 24 2, sw_push (.int 1), sw_ii (fun x y => x + y), sw_cv 24 m_J2_grow_2 1, sw_rv 2]
def b_J2_grow : sw_B := fun n => match n with
  | 0 => bb_J2_grow_0
  | _ => []
/-! java/util/ArrayList.grow(I)[Ljava/lang/Object; -/
def bb_J2_grow_2_0 : List sw_I := [sw_ld 2 0, sw_gf 24 1, sw_al, sw_sti 2, sw_ld 0 2, sw_iz 4 1 [true, true, true, false], sw_ld 2 0, sw_gf 24 1, sw_gs 10, sw_iac true 2 [true, true, false, false], sw_goto 1 [true, true, true, false]]
def bb_J2_grow_2_1 : List sw_I := [sw_ld 0 2, sw_ld 0 1, sw_ld 0 2, sw_ii (fun x y => x - y), sw_ld 0 2, sw_push (.int 1), sw_ii (fun x y => x >>> (y &&& 31)), sw_cs m_J3_newLength 3, sw_sti 3, sw_ld 2 0, sw_ld 2 0, sw_gf 24 1, sw_ld 0 3, sw_cs m_J5_copyOf 2, sw_dx1, sw_pf 24 1 2, sw_rv 2]
def bb_J2_grow_2_2 : List sw_I := [sw_ld 2 0, sw_push (.int 10), sw_ld 0 1, sw_mm sw_max, sw_na 67, sw_dx1, sw_pf 24 1 2, sw_rv 2]
def b_J2_grow_2 : sw_B := fun n => match n with
  | 0 => bb_J2_grow_2_0
  | 1 => bb_J2_grow_2_1
  | 2 => bb_J2_grow_2_2
  | _ => []
/-! java/util/ArrayList.size()I -/
def bb_J2_size_0 : List sw_I := [sw_ld 2 0, sw_gf 24 2, sw_rv 0]
def b_J2_size : sw_B := fun n => match n with
  | 0 => bb_J2_size_0
  | _ => []
/-! java/util/ArrayList.get(I)Ljava/lang/Object; -/
def bb_J2_get_0 : List sw_I := [sw_ld 0 1, sw_ld 2 0, sw_gf 24 2, sw_cs m_J6_checkIndex 2, sw_pop, sw_ld 2 0, sw_ld 0 1, sw_cv 24 m_J2_elementData 1, sw_rv 2]
def b_J2_get : sw_B := fun n => match n with
  | 0 => bb_J2_get_0
  | _ => []
/-! java/util/ArrayList.elementData(I)Ljava/lang/Object; -/
def bb_J2_elementData_0 : List sw_I := [sw_ld 2 0, sw_gf 24 1, sw_ld 0 1, sw_ald 67, sw_rv 2]
def b_J2_elementData : sw_B := fun n => match n with
  | 0 => bb_J2_elementData_0
  | _ => []
/-! java/util/ArrayList.add(ILjava/lang/Object;)V -/
def bb_J2_add_3_0 : List sw_I := [sw_ld 2 0, sw_ld 0 1, sw_cv 24 m_J2_rangeCheckForAdd 1, sw_ld 2 0, sw_dup, sw_gf 24 0, sw_push (.int 1), sw_ii (fun x y => x + y), sw_pf 24 0 0, sw_ld 2 0, sw_gf 24 2, sw_dup, sw_sti 3, sw_ld 2 0, sw_gf 24 1, sw_dup, sw_sta 4, sw_al, sw_ic 1 1 [true, true, true, true, true], sw_ld 2 0, sw_cv 24 m_J2_grow 0, sw_sta 4, sw_goto 1 [true, true, true, true, true]]
def bb_J2_add_3_1 : List sw_I := [sw_ld 2 4, sw_ld 0 1, sw_ld 2 4, sw_ld 0 1, sw_push (.int 1), sw_ii (fun x y => x + y), sw_ld 0 3, sw_ld 0 1, sw_ii (fun x y => x - y), sw_cp 67, sw_ld 2 4, sw_ld 0 1, sw_ld 2 2, sw_asr 67 sw_k67, sw_ld 2 0, sw_ld 0 3, sw_push (.int 1), sw_ii (fun x y => x + y), sw_pf 24 2 0, sw_ret]
def b_J2_add_3 : sw_B := fun n => match n with
  | 0 => bb_J2_add_3_0
  | 1 => bb_J2_add_3_1
  | _ => []
/-! java/util/ArrayList.rangeCheckForAdd(I)V -/
def bb_J2_rangeCheckForAdd_0 : List sw_I := [sw_ld 0 1, sw_ld 2 0, sw_gf 24 2, sw_ic 4 1 [true, true], sw_ld 0 1, sw_iz 3 2 [false, false], sw_goto 1 [true, true]]
def bb_J2_rangeCheckForAdd_1 : List sw_I := [sw_stop]
def bb_J2_rangeCheckForAdd_2 : List sw_I := [sw_ret]
def b_J2_rangeCheckForAdd : sw_B := fun n => match n with
  | 0 => bb_J2_rangeCheckForAdd_0
  | 1 => bb_J2_rangeCheckForAdd_1
  | 2 => bb_J2_rangeCheckForAdd_2
  | _ => []
/-! java/util/ArrayList.isEmpty()Z -/
def bb_J2_isEmpty_0 : List sw_I := [sw_ld 2 0, sw_gf 24 2, sw_iz 1 1 [false], sw_push (.int 1), sw_goto 2 [false]]
def bb_J2_isEmpty_1 : List sw_I := [sw_push (.int 0), sw_goto 2 [false]]
def bb_J2_isEmpty_2 : List sw_I := [sw_rv 1]
def b_J2_isEmpty : sw_B := fun n => match n with
  | 0 => bb_J2_isEmpty_0
  | 1 => bb_J2_isEmpty_1
  | 2 => bb_J2_isEmpty_2
  | _ => []
/-! java/util/ArrayList.remove(I)Ljava/lang/Object; -/
def bb_J2_remove_0 : List sw_I := [sw_ld 0 1, sw_ld 2 0, sw_gf 24 2, sw_cs m_J6_checkIndex 2, sw_pop, sw_ld 2 0, sw_gf 24 1, sw_sta 2, sw_ld 2 2, sw_ld 0 1, sw_ald 67, sw_sta 3, sw_ld 2 0, sw_ld 2 2, sw_ld 0 1, sw_cv 24 m_J2_fastRemove 2, sw_ld 2 3, sw_rv 2]
def b_J2_remove : sw_B := fun n => match n with
  | 0 => bb_J2_remove_0
  | _ => []
/-! java/util/ArrayList.fastRemove([Ljava/lang/Object;I)V -/
def bb_J2_fastRemove_0 : List sw_I := [sw_ld 2 0, sw_dup, sw_gf 24 0, sw_push (.int 1), sw_ii (fun x y => x + y), sw_pf 24 0 0, sw_ld 2 0, sw_gf 24 2, sw_push (.int 1), sw_ii (fun x y => x - y), sw_dup, sw_sti 3, sw_ld 0 2, sw_ic 5 1 [true, true, false, true], sw_ld 2 1, sw_ld 0 2, sw_push (.int 1), sw_ii (fun x y => x + y), sw_ld 2 1, sw_ld 0 2, sw_ld 0 3, sw_ld 0 2, sw_ii (fun x y => x - y), sw_cp 67, sw_goto 1 [true, true, false, true]]
def bb_J2_fastRemove_1 : List sw_I := [sw_ld 2 1, sw_ld 2 0, sw_ld 0 3, sw_dx1, sw_pf 24 2 0, sw_push .null, sw_asr 67 sw_k67, sw_ret]
def b_J2_fastRemove : sw_B := fun n => match n with
  | 0 => bb_J2_fastRemove_0
  | 1 => bb_J2_fastRemove_1
  | _ => []
/-! java/util/ArrayList.iterator()Ljava/util/Iterator; -/
def bb_J2_iterator_0 : List sw_I := [sw_nw 25 [.int 0, .int 0, .int 0, .null], sw_dup, sw_ld 2 0, sw_ci m_J23_init 1, sw_rv 2]
def b_J2_iterator : sw_B := fun n => match n with
  | 0 => bb_J2_iterator_0
  | _ => []
/-! java/util/ArrayList.clear()V -/
def bb_J2_clear_0 : List sw_I := [sw_ld 2 0, sw_dup, sw_gf 24 0, sw_push (.int 1), sw_ii (fun x y => x + y), sw_pf 24 0 0, sw_ld 2 0, sw_gf 24 1, sw_sta 1, sw_ld 2 0, sw_gf 24 2, sw_sti 2, sw_ld 2 0, sw_push (.int 0), sw_dx1, sw_pf 24 2 0, sw_sti 3, sw_goto 1 [false, true, true, true]]
def bb_J2_clear_1 : List sw_I := [sw_ld 0 3, sw_ld 0 2, sw_ic 3 2 [false, false, false, false], sw_ld 2 1, sw_ld 0 3, sw_push .null, sw_asr 67 sw_k67, sw_inc 3 1, sw_goto 1 [false, true, true, true]]
def bb_J2_clear_2 : List sw_I := [sw_ret]
def b_J2_clear : sw_B := fun n => match n with
  | 0 => bb_J2_clear_0
  | 1 => bb_J2_clear_1
  | 2 => bb_J2_clear_2
  | _ => []
/-! java/util/ArrayList.addAll(Ljava/util/Collection;)Z -/
def bb_J2_addAll_0 : List sw_I := [sw_ld 2 1, sw_cv 24 m_J2_toArray 0, sw_sta 2, sw_ld 2 0, sw_dup, sw_gf 24 0, sw_push (.int 1), sw_ii (fun x y => x + y), sw_pf 24 0 0, sw_ld 2 2, sw_al, sw_sti 3, sw_ld 0 3, sw_iz 1 1 [true, false, true, true, false, false], sw_push (.int 0), sw_rv 1]
def bb_J2_addAll_1 : List sw_I := [sw_ld 0 3, sw_ld 2 0, sw_gf 24 1, sw_dup, sw_sta 4, sw_al, sw_ld 2 0, sw_gf 24 2, sw_dup, sw_sti 5, sw_ii (fun x y => x - y), sw_ic 5 2 [true, false, true, true, true, true], sw_ld 2 0, sw_ld 0 5, sw_ld 0 3, sw_ii (fun x y => x + y), sw_cv 24 m_J2_grow_2 1, sw_sta 4, sw_goto 2 [true, false, true, true, true, true]]
def bb_J2_addAll_2 : List sw_I := [sw_ld 2 2, sw_push (.int 0), sw_ld 2 4, sw_ld 0 5, sw_ld 0 3, sw_cp 67, sw_ld 2 0, sw_ld 0 5, sw_ld 0 3, sw_ii (fun x y => x + y), sw_pf 24 2 0, sw_push (.int 1), sw_rv 1]
def b_J2_addAll : sw_B := fun n => match n with
  | 0 => bb_J2_addAll_0
  | 1 => bb_J2_addAll_1
  | 2 => bb_J2_addAll_2
  | _ => []
/-! java/util/ArrayList.toArray()[Ljava/lang/Object; -/
def bb_J2_toArray_0 : List sw_I := [sw_ld 2 0, sw_gf 24 1, sw_ld 2 0, sw_gf 24 2, sw_cs m_J5_copyOf 2, sw_rv 2]
def b_J2_toArray : sw_B := fun n => match n with
  | 0 => bb_J2_toArray_0
  | _ => []
/-! java/util/ArrayList.contains(Ljava/lang/Object;)Z -/
def bb_J2_contains_0 : List sw_I := [sw_ld 2 0, sw_ld 2 1, sw_cv 24 m_J2_indexOf 1, sw_iz 2 1 [false, false], sw_push (.int 1), sw_goto 2 [false, false]]
def bb_J2_contains_1 : List sw_I := [sw_push (.int 0), sw_goto 2 [false, false]]
def bb_J2_contains_2 : List sw_I := [sw_rv 1]
def b_J2_contains : sw_B := fun n => match n with
  | 0 => bb_J2_contains_0
  | 1 => bb_J2_contains_1
  | 2 => bb_J2_contains_2
  | _ => []
/-! java/util/ArrayList.indexOf(Ljava/lang/Object;)I -/
def bb_J2_indexOf_0 : List sw_I := [sw_ld 2 0, sw_ld 2 1, sw_push (.int 0), sw_ld 2 0, sw_gf 24 2, sw_cv 24 m_J2_indexOfRange 3, sw_rv 0]
def b_J2_indexOf : sw_B := fun n => match n with
  | 0 => bb_J2_indexOf_0
  | _ => []
/-! java/util/ArrayList.indexOfRange(Ljava/lang/Object;II)I -/
def bb_J2_indexOfRange_0 : List sw_I := [sw_ld 2 0, sw_gf 24 1, sw_sta 4, sw_ld 2 1, sw_inl false 4 [false, true, true, true, true, false], sw_ld 0 2, sw_sti 5, sw_goto 1 [false, false, false, true, true, true]]
def bb_J2_indexOfRange_1 : List sw_I := [sw_ld 0 5, sw_ld 0 3, sw_ic 3 3 [false, false, false, false, false, false], sw_ld 2 4, sw_ld 0 5, sw_ald 67, sw_inl false 2 [false, false, false, true, true, true], sw_ld 0 5, sw_rv 0]
def bb_J2_indexOfRange_2 : List sw_I := [sw_inc 5 1, sw_goto 1 [false, false, false, true, true, true]]
def bb_J2_indexOfRange_3 : List sw_I := [sw_goto 7 [false, false, false, false, false, false]]
def bb_J2_indexOfRange_4 : List sw_I := [sw_ld 0 2, sw_sti 5, sw_goto 5 [false, true, false, true, true, true]]
def bb_J2_indexOfRange_5 : List sw_I := [sw_ld 0 5, sw_ld 0 3, sw_ic 3 7 [false, false, false, false, false, false], sw_ld 2 1, sw_ld 2 4, sw_ld 0 5, sw_ald 67, sw_cv 20 m_J24_equals 1, sw_iz 0 6 [false, true, false, true, true, true], sw_ld 0 5, sw_rv 0]
def bb_J2_indexOfRange_6 : List sw_I := [sw_inc 5 1, sw_goto 5 [false, true, false, true, true, true]]
def bb_J2_indexOfRange_7 : List sw_I := [sw_push (.int (-1)), sw_rv 0]
def b_J2_indexOfRange : sw_B := fun n => match n with
  | 0 => bb_J2_indexOfRange_0
  | 1 => bb_J2_indexOfRange_1
  | 2 => bb_J2_indexOfRange_2
  | 3 => bb_J2_indexOfRange_3
  | 4 => bb_J2_indexOfRange_4
  | 5 => bb_J2_indexOfRange_5
  | 6 => bb_J2_indexOfRange_6
  | 7 => bb_J2_indexOfRange_7
  | _ => []
/-! java/util/ArrayList$Itr.<init>(Ljava/util/ArrayList;)V -/
def bb_J23_init_0 : List sw_I := [sw_ld 2 0, sw_ld 2 1, sw_pf 25 3 2, sw_ld 2 0, sw_oin, sw_ld 2 0, sw_push (.int (-1)), sw_pf 25 1 0, sw_ld 2 0, sw_ld 2 0, sw_gf 25 3, sw_gf 24 0, sw_pf 25 2 0, sw_ret]
def b_J23_init : sw_B := fun n => match n with
  | 0 => bb_J23_init_0
  | _ => []
/-! java/util/ArrayList$Itr.hasNext()Z -/
def bb_J23_hasNext_0 : List sw_I := [sw_ld 2 0, sw_gf 25 0, sw_ld 2 0, sw_gf 25 3, sw_gf 24 2, sw_ic 0 1 [false], sw_push (.int 1), sw_goto 2 [false]]
def bb_J23_hasNext_1 : List sw_I := [sw_push (.int 0), sw_goto 2 [false]]
def bb_J23_hasNext_2 : List sw_I := [sw_rv 1]
def b_J23_hasNext : sw_B := fun n => match n with
  | 0 => bb_J23_hasNext_0
  | 1 => bb_J23_hasNext_1
  | 2 => bb_J23_hasNext_2
  | _ => []
/-! java/util/ArrayList$Itr.next()Ljava/lang/Object; -/
def bb_J23_next_0 : List sw_I := [sw_ld 2 0, sw_cv 25 m_J23_checkForComodification 0, sw_ld 2 0, sw_gf 25 0, sw_sti 1, sw_ld 0 1, sw_ld 2 0, sw_gf 25 3, sw_gf 24 2, sw_ic 2 1 [true, true, false], sw_stop]
def bb_J23_next_1 : List sw_I := [sw_ld 2 0, sw_gf 25 3, sw_gf 24 1, sw_sta 2, sw_ld 0 1, sw_ld 2 2, sw_al, sw_ic 2 2 [true, true, true], sw_stop]
def bb_J23_next_2 : List sw_I := [sw_ld 2 0, sw_ld 0 1, sw_push (.int 1), sw_ii (fun x y => x + y), sw_pf 25 0 0, sw_ld 2 2, sw_ld 2 0, sw_ld 0 1, sw_dx1, sw_pf 25 1 0, sw_ald 67, sw_rv 2]
def b_J23_next : sw_B := fun n => match n with
  | 0 => bb_J23_next_0
  | 1 => bb_J23_next_1
  | 2 => bb_J23_next_2
  | _ => []
/-! java/util/ArrayList$Itr.checkForComodification()V -/
def bb_J23_checkForComodification_0 : List sw_I := [sw_ld 2 0, sw_gf 25 3, sw_gf 24 0, sw_ld 2 0, sw_gf 25 2, sw_ic 0 1 [false], sw_stop]
def bb_J23_checkForComodification_1 : List sw_I := [sw_ret]
def b_J23_checkForComodification : sw_B := fun n => match n with
  | 0 => bb_J23_checkForComodification_0
  | 1 => bb_J23_checkForComodification_1
  | _ => []
/-! java/lang/Object.equals(Ljava/lang/Object;)Z -/
def bb_J24_equals_0 : List sw_I := [sw_ld 2 0, sw_ld 2 1, sw_iac false 1 [false, false], sw_push (.int 1), sw_goto 2 [false, false]]
def bb_J24_equals_1 : List sw_I := [sw_push (.int 0), sw_goto 2 [false, false]]
def bb_J24_equals_2 : List sw_I := [sw_rv 1]
def b_J24_equals : sw_B := fun n => match n with
  | 0 => bb_J24_equals_0
  | 1 => bb_J24_equals_1
  | 2 => bb_J24_equals_2
  | _ => []
/-! jdk/internal/util/ArraysSupport.newLength(III)I -/
def bb_J3_newLength_0 : List sw_I := [sw_ld 0 0, sw_ld 0 1, sw_ld 0 2, sw_mm sw_max, sw_ii (fun x y => x + y), sw_sti 3, sw_push (.int 0), sw_ld 0 3, sw_ic 3 1 [true, true, false, false], sw_ld 0 3, sw_push (.int 2147483639), sw_ic 4 1 [true, true, false, false], sw_ld 0 3, sw_rv 0]
def bb_J3_newLength_1 : List sw_I := [sw_ld 0 0, sw_ld 0 1, sw_stop]
def b_J3_newLength : sw_B := fun n => match n with
  | 0 => bb_J3_newLength_0
  | 1 => bb_J3_newLength_1
  | _ => []
/-! java/util/Arrays.copyOf([Ljava/lang/Object;I)[Ljava/lang/Object; -/
def bb_J5_copyOf_0 : List sw_I := [sw_ld 2 0, sw_ld 0 1, sw_ld 2 0, sw_gc 67, sw_cs m_J5_copyOf_2 3, sw_rv 2]
def b_J5_copyOf : sw_B := fun n => match n with
  | 0 => bb_J5_copyOf_0
  | _ => []
/-! java/util/Arrays.copyOf([Ljava/lang/Object;ILjava/lang/Class;)[Ljava/lang/Object; -/
def bb_J5_copyOf_2_0 : List sw_I := [sw_ld 2 2, sw_gs 50, sw_iac false 1 [true, true, true, false], sw_ld 0 1, sw_na 67, sw_goto 2 [true, true, false, false]]
def bb_J5_copyOf_2_1 : List sw_I := [sw_ld 2 2, sw_stop]
def bb_J5_copyOf_2_2 : List sw_I := [sw_sta 3, sw_ld 2 0, sw_push (.int 0), sw_ld 2 3, sw_push (.int 0), sw_ld 2 0, sw_al, sw_ld 0 1, sw_mm sw_min, sw_cp 67, sw_ld 2 3, sw_rv 2]
def b_J5_copyOf_2 : sw_B := fun n => match n with
  | 0 => bb_J5_copyOf_2_0
  | 1 => bb_J5_copyOf_2_1
  | 2 => bb_J5_copyOf_2_2
  | _ => []
/-! java/util/Objects.checkIndex(II)I -/
def bb_J6_checkIndex_0 : List sw_I := [sw_ld 0 0, sw_ld 0 1, sw_push .null, sw_cs m_J7_checkIndex 3, sw_rv 0]
def b_J6_checkIndex : sw_B := fun n => match n with
  | 0 => bb_J6_checkIndex_0
  | _ => []
/-! jdk/internal/util/Preconditions.checkIndex(IILjava/util/function/BiFunction;)I -/
def bb_J7_checkIndex_0 : List sw_I := [sw_ld 0 0, sw_iz 2 1 [true, true, true], sw_ld 0 0, sw_ld 0 1, sw_ic 2 2 [true, false, false], sw_goto 1 [true, true, true]]
def bb_J7_checkIndex_1 : List sw_I := [sw_ld 2 2, sw_ld 0 0, sw_ld 0 1, sw_stop]
def bb_J7_checkIndex_2 : List sw_I := [sw_ld 0 0, sw_rv 0]
def b_J7_checkIndex : sw_B := fun n => match n with
  | 0 => bb_J7_checkIndex_0
  | 1 => bb_J7_checkIndex_1
  | 2 => bb_J7_checkIndex_2
  | _ => []
/-! java/lang/Enum.ordinal()I -/
def bb_J8_ordinal_0 : List sw_I := [sw_ld 2 0, sw_gf 40 0, sw_rv 0]
def b_J8_ordinal : sw_B := fun n => match n with
  | 0 => bb_J8_ordinal_0
  | _ => []
/-! SpillslotWorks.<init>()V -/
def bb_X1_init_0 : List sw_I := [sw_ld 2 0, sw_oin, sw_ld 2 0, sw_nw 1 [.null, .null, .null, .int 0], sw_dup, sw_ci m_X2_init 0, sw_pf 0 0 2, sw_ld 2 0, sw_nw 2 [.int 0, .int 0, .int 0, .int 0, .int 0, .null], sw_dup, sw_push (.int 8), sw_push (.int 28), sw_push (.int 15), sw_push (.int 1), sw_push (.int 0), sw_cs m_X1_firstLatencies 0, sw_ci m_X3_init 6, sw_pf 0 1 2, sw_ld 2 0, sw_nw 3 [.null, .null, .null, .null, .null, .int 0], sw_dup, sw_ld 2 0, sw_gf 0 0, sw_ld 2 0, sw_gf 0 1, sw_push (.int 0), sw_ci m_X4_init 3, sw_pf 0 2 2, sw_ret]
def b_X1_init : sw_B := fun n => match n with
  | 0 => bb_X1_init_0
  | _ => []
/-! SpillslotWorks.firstLatencies()[I -/
def bb_X1_firstLatencies_0 : List sw_I := [sw_push (.int 8), sw_na 64, sw_dup, sw_push (.int 0), sw_push (.int 1), sw_ast 64, sw_dup, sw_push (.int 1), sw_push (.int 1), sw_ast 64, sw_dup, sw_push (.int 2), sw_push (.int 1), sw_ast 64, sw_dup, sw_push (.int 3), sw_push (.int 3), sw_ast 64, sw_dup, sw_push (.int 4), sw_push (.int 3), sw_ast 64, sw_dup, sw_push (.int 5), sw_push (.int 2), sw_ast 64, sw_dup, sw_push (.int 6), sw_push (.int 1), sw_ast 64, sw_dup, sw_push (.int 7), sw_push (.int 5), sw_ast 64, sw_sta 0, sw_ld 2 0, sw_rv 2]
def b_X1_firstLatencies : sw_B := fun n => match n with
  | 0 => bb_X1_firstLatencies_0
  | _ => []
/-! SpillslotWorks.has(II)Z -/
def bb_X1_has_0 : List sw_I := [sw_ld 0 0, sw_ld 0 1, sw_ii (fun x y => x >>> (y &&& 31)), sw_push (.int 1), sw_ii (fun x y => x &&& y), sw_push (.int 1), sw_ic 1 1 [false, false], sw_push (.int 1), sw_goto 2 [false, false]]
def bb_X1_has_1 : List sw_I := [sw_push (.int 0), sw_goto 2 [false, false]]
def bb_X1_has_2 : List sw_I := [sw_rv 1]
def b_X1_has : sw_B := fun n => match n with
  | 0 => bb_X1_has_0
  | 1 => bb_X1_has_1
  | 2 => bb_X1_has_2
  | _ => []
/-! SpillslotWorks.callOf(II)I -/
def bb_X1_callOf_0 : List sw_I := [sw_push (.int 3), sw_ld 0 0, sw_ii (fun x y => x * y), sw_push (.int 2), sw_ld 0 1, sw_ii (fun x y => x * y), sw_ii (fun x y => x + y), sw_push (.int 1), sw_ii (fun x y => x + y), sw_rv 0]
def b_X1_callOf : sw_B := fun n => match n with
  | 0 => bb_X1_callOf_0
  | _ => []
/-! SpillslotWorks.meanStall()D -/
def bb_X1_meanStall_0 : List sw_I := [sw_ld 2 0, sw_gf 0 2, sw_gf 3 3, sw_gf 11 4, sw_iz 1 1 [true], sw_push (.double 0), sw_goto 2 [false]]
noncomputable def bb_X1_meanStall_1 : List sw_I := [sw_ld 2 0, sw_gf 0 2, sw_gf 3 3, sw_gf 11 6, sw_i2d, sw_ld 2 0, sw_gf 0 2, sw_gf 3 3, sw_gf 11 4, sw_i2d, sw_dd, sw_goto 2 [false]]
def bb_X1_meanStall_2 : List sw_I := [sw_rv 4]
noncomputable def b_X1_meanStall : sw_B := fun n => match n with
  | 0 => bb_X1_meanStall_0
  | 1 => bb_X1_meanStall_1
  | 2 => bb_X1_meanStall_2
  | _ => []
/-! SpillslotWorks.enough()I -/
def bb_X1_enough_0 : List sw_I := [sw_ld 2 0, sw_cv 0 m_X1_enoughNow 0, sw_rv 0]
def b_X1_enough : sw_B := fun n => match n with
  | 0 => bb_X1_enough_0
  | _ => []
/-! SpillslotWorks.enoughNow()I -/
def bb_X1_enoughNow_0 : List sw_I := [sw_push (.int 5), sw_sti 1, sw_goto 1 [true, true, false]]
def bb_X1_enoughNow_1 : List sw_I := [sw_ld 0 1, sw_push (.int 11), sw_ic 4 3 [false, false, false], sw_ld 2 0, sw_gf 0 1, sw_gf 2 1, sw_push (.int 1), sw_ld 0 1, sw_push (.int 3), sw_ii (fun x y => x - y), sw_ii (fun x y => x <<< (y &&& 31)), sw_push (.int 1), sw_ii (fun x y => x - y), sw_ii (fun x y => x &&& y), sw_sti 2, sw_ld 2 0, sw_ld 2 0, sw_gf 0 1, sw_ld 0 1, sw_ld 0 2, sw_ld 2 0, sw_gf 0 1, sw_gf 2 4, sw_cv 2 m_X3_with 3, sw_cv 0 m_X1_buildWith 1, sw_push (.int 5), sw_cv 3 m_X4_many 1, sw_iz 1 2 [true, true, false], sw_ld 0 1, sw_rv 0]
def bb_X1_enoughNow_2 : List sw_I := [sw_inc 1 1, sw_goto 1 [true, true, false]]
def bb_X1_enoughNow_3 : List sw_I := [sw_push (.int (-1)), sw_rv 0]
def b_X1_enoughNow : sw_B := fun n => match n with
  | 0 => bb_X1_enoughNow_0
  | 1 => bb_X1_enoughNow_1
  | 2 => bb_X1_enoughNow_2
  | 3 => bb_X1_enoughNow_3
  | _ => []
/-! SpillslotWorks.buildWith(LSpillslotWorks$Machine;)LSpillslotWorks$Build; -/
def bb_X1_buildWith_0 : List sw_I := [sw_nw 3 [.null, .null, .null, .null, .null, .int 0], sw_dup, sw_ld 2 0, sw_gf 0 0, sw_ld 2 1, sw_push (.int 0), sw_ci m_X4_init 3, sw_rv 2]
def b_X1_buildWith : sw_B := fun n => match n with
  | 0 => bb_X1_buildWith_0
  | _ => []
/-! SpillslotWorks.count(I)I -/
def bb_X1_count_0 : List sw_I := [sw_push (.int 0), sw_sti 1, sw_ld 0 0, sw_sti 2, sw_goto 1 [false, true, true]]
def bb_X1_count_1 : List sw_I := [sw_ld 0 2, sw_iz 5 2 [false, true, false], sw_ld 0 1, sw_ld 0 2, sw_push (.int 2), sw_dvi (fun x y => x - x / y * y), sw_ii (fun x y => x + y), sw_sti 1, sw_ld 0 2, sw_push (.int 2), sw_dvi (fun x y => x / y), sw_sti 2, sw_goto 1 [false, true, true]]
def bb_X1_count_2 : List sw_I := [sw_ld 0 1, sw_rv 0]
def b_X1_count : sw_B := fun n => match n with
  | 0 => bb_X1_count_0
  | 1 => bb_X1_count_1
  | 2 => bb_X1_count_2
  | _ => []
/-! SpillslotWorks.unordered()I -/
def bb_X1_unordered_0 : List sw_I := [sw_ld 2 0, sw_cv 0 m_X1_unorderedNow 0, sw_rv 0]
def b_X1_unordered : sw_B := fun n => match n with
  | 0 => bb_X1_unordered_0
  | _ => []
/-! SpillslotWorks.unorderedNow()I -/
def bb_X1_unorderedNow_0 : List sw_I := [sw_nw 3 [.null, .null, .null, .null, .null, .int 0], sw_dup, sw_ld 2 0, sw_gf 0 0, sw_ld 2 0, sw_gf 0 1, sw_push (.int 1), sw_ci m_X4_init 3, sw_gf 3 3, sw_gf 11 7, sw_ld 2 0, sw_gf 0 2, sw_gf 3 3, sw_gf 11 7, sw_ii (fun x y => x - y), sw_rv 0]
def b_X1_unorderedNow : sw_B := fun n => match n with
  | 0 => bb_X1_unorderedNow_0
  | _ => []
/-! SpillslotWorks.digest()J -/
def bb_X1_digest_0 : List sw_I := [sw_push (.long 58132), sw_stl 1, sw_push (.int 0), sw_sti 3, sw_goto 1 [true, true, false, true]]
def bb_X1_digest_1 : List sw_I := [sw_ld 0 3, sw_push (.int 15), sw_ic 4 2 [true, true, false, false], sw_ld 3 1, sw_push (.int 1), sw_na 64, sw_dup, sw_push (.int 0), sw_ld 2 0, sw_ld 0 3, sw_cv 0 m_X1_manyNow 1, sw_ast 64, sw_cs m_X1_mix 2, sw_stl 1, sw_inc 3 1, sw_goto 1 [true, true, false, true]]
def bb_X1_digest_2 : List sw_I := [sw_ld 3 1, sw_ld 2 0, sw_gf 0 0, sw_cv 1 m_X2_meant 0, sw_cs m_X1_mix 2, sw_stl 1, sw_push (.int 0), sw_sti 3, sw_goto 3 [true, true, false, true]]
def bb_X1_digest_3 : List sw_I := [sw_ld 0 3, sw_push (.int 8), sw_ic 3 5 [true, true, false, false], sw_ld 2 0, sw_gf 0 0, sw_gf 1 3, sw_ld 0 3, sw_cs m_X1_has 2, sw_iz 0 4 [true, true, false, true], sw_ld 3 1, sw_push (.int 1), sw_na 64, sw_dup, sw_push (.int 0), sw_ld 2 0, sw_gf 0 2, sw_ld 0 3, sw_cv 3 m_X4_answer 1, sw_ast 64, sw_cs m_X1_mix 2, sw_stl 1, sw_goto 4 [true, true, false, true]]
def bb_X1_digest_4 : List sw_I := [sw_inc 3 1, sw_goto 3 [true, true, false, true]]
def bb_X1_digest_5 : List sw_I := [sw_ld 2 0, sw_ld 2 0, sw_ld 2 0, sw_ld 3 1, sw_cv 0 m_X1_mixChosen 1, sw_cv 0 m_X1_mixValues 1, sw_cv 0 m_X1_mixCode 1, sw_stl 1, sw_ld 2 0, sw_ld 2 0, sw_gf 0 1, sw_push (.int 6), sw_push (.int 4), sw_push (.int 1), sw_cv 2 m_X3_with 3, sw_cv 0 m_X1_buildWith 1, sw_sta 3, sw_ld 3 1, sw_push (.int 4), sw_na 64, sw_dup, sw_push (.int 0), sw_ld 2 0, sw_cv 0 m_X1_enoughNow 0, sw_ast 64, sw_dup, sw_push (.int 1), sw_ld 2 0, sw_cv 0 m_X1_unorderedNow 0, sw_ast 64, sw_dup, sw_push (.int 2), sw_ld 2 3, sw_push (.int 9), sw_cv 3 m_X4_many 1, sw_ast 64, sw_dup, sw_push (.int 3), sw_ld 2 3, sw_push (.int 13), sw_cv 3 m_X4_many 1, sw_ast 64, sw_cs m_X1_mix 2, sw_rv 3]
def b_X1_digest : sw_B := fun n => match n with
  | 0 => bb_X1_digest_0
  | 1 => bb_X1_digest_1
  | 2 => bb_X1_digest_2
  | 3 => bb_X1_digest_3
  | 4 => bb_X1_digest_4
  | 5 => bb_X1_digest_5
  | _ => []
/-! SpillslotWorks.manyNow(I)I -/
def bb_X1_manyNow_0 : List sw_I := [sw_ld 0 1, sw_sw [(0, 1, [true, false]), (1, 2, [true, false]), (2, 3, [true, false])] (4, [true, true])]
def bb_X1_manyNow_1 : List sw_I := [sw_ld 2 0, sw_gf 0 0, sw_gf 1 0, sw_cv 24 m_J2_size 0, sw_rv 0]
def bb_X1_manyNow_2 : List sw_I := [sw_ld 2 0, sw_cv 0 m_X1_freeNodes 0, sw_rv 0]
def bb_X1_manyNow_3 : List sw_I := [sw_ld 2 0, sw_gf 0 0, sw_cv 1 m_X2_statements 0, sw_rv 0]
def bb_X1_manyNow_4 : List sw_I := [sw_ld 2 0, sw_gf 0 2, sw_ld 0 1, sw_cv 3 m_X4_many 1, sw_rv 0]
def b_X1_manyNow : sw_B := fun n => match n with
  | 0 => bb_X1_manyNow_0
  | 1 => bb_X1_manyNow_1
  | 2 => bb_X1_manyNow_2
  | 3 => bb_X1_manyNow_3
  | 4 => bb_X1_manyNow_4
  | _ => []
/-! SpillslotWorks.freeNodes()I -/
def bb_X1_freeNodes_0 : List sw_I := [sw_push (.int 0), sw_sti 1, sw_push (.int 0), sw_sti 2, sw_goto 1 [true, true, true]]
def bb_X1_freeNodes_1 : List sw_I := [sw_ld 0 2, sw_ld 2 0, sw_gf 0 0, sw_gf 1 0, sw_cv 24 m_J2_size 0, sw_ic 3 4 [false, true, false], sw_ld 0 1, sw_ld 2 0, sw_gf 0 0, sw_ld 0 2, sw_cv 1 m_X2_at 1, sw_gf 15 3, sw_iz 0 2 [true, false, true], sw_push (.int 0), sw_goto 3 [true, false, true]]
def bb_X1_freeNodes_2 : List sw_I := [sw_push (.int 1), sw_goto 3 [true, false, true]]
def bb_X1_freeNodes_3 : List sw_I := [sw_ii (fun x y => x + y), sw_sti 1, sw_inc 2 1, sw_goto 1 [true, true, true]]
def bb_X1_freeNodes_4 : List sw_I := [sw_ld 0 1, sw_rv 0]
def b_X1_freeNodes : sw_B := fun n => match n with
  | 0 => bb_X1_freeNodes_0
  | 1 => bb_X1_freeNodes_1
  | 2 => bb_X1_freeNodes_2
  | 3 => bb_X1_freeNodes_3
  | 4 => bb_X1_freeNodes_4
  | _ => []
/-! SpillslotWorks.mix(J[I)J -/
def bb_X1_mix_0 : List sw_I := [sw_ld 3 0, sw_stl 3, sw_ld 2 2, sw_sta 5, sw_ld 2 5, sw_al, sw_sti 6, sw_push (.int 0), sw_sti 7, sw_goto 1 [false, false, false, true, false, true, true, true, false]]
def bb_X1_mix_1 : List sw_I := [sw_ld 0 7, sw_ld 0 6, sw_ic 3 2 [false, false, false, true, false, false, false, false, false], sw_ld 2 5, sw_ld 0 7, sw_ald 64, sw_sti 8, sw_ld 3 3, sw_push (.long 31), sw_ll (fun x y => x * y), sw_ld 0 8, sw_i2l, sw_ll (fun x y => x + y), sw_stl 3, sw_inc 7 1, sw_goto 1 [false, false, false, true, false, true, true, true, false]]
def bb_X1_mix_2 : List sw_I := [sw_ld 3 3, sw_rv 3]
def b_X1_mix : sw_B := fun n => match n with
  | 0 => bb_X1_mix_0
  | 1 => bb_X1_mix_1
  | 2 => bb_X1_mix_2
  | _ => []
/-! SpillslotWorks.mixChosen(J)J -/
def bb_X1_mixChosen_0 : List sw_I := [sw_ld 3 1, sw_stl 3, sw_push (.int 0), sw_sti 5, sw_goto 1 [true, false, false, true, false, true, false]]
def bb_X1_mixChosen_1 : List sw_I := [sw_ld 0 5, sw_ld 2 0, sw_gf 0 2, sw_gf 3 0, sw_cv 24 m_J2_size 0, sw_ic 3 4 [false, false, false, true, false, false, false], sw_push (.int 0), sw_sti 6, sw_goto 2 [true, false, false, true, false, true, true]]
def bb_X1_mixChosen_2 : List sw_I := [sw_ld 0 6, sw_push (.int 7), sw_ic 4 3 [true, false, false, true, false, true, false], sw_ld 3 3, sw_push (.int 1), sw_na 64, sw_dup, sw_push (.int 0), sw_ld 2 0, sw_ld 0 5, sw_ld 0 6, sw_cv 0 m_X1_chosenNow 2, sw_ast 64, sw_cs m_X1_mix 2, sw_stl 3, sw_inc 6 1, sw_goto 2 [true, false, false, true, false, true, true]]
def bb_X1_mixChosen_3 : List sw_I := [sw_inc 5 1, sw_goto 1 [true, false, false, true, false, true, false]]
def bb_X1_mixChosen_4 : List sw_I := [sw_ld 3 3, sw_rv 3]
def b_X1_mixChosen : sw_B := fun n => match n with
  | 0 => bb_X1_mixChosen_0
  | 1 => bb_X1_mixChosen_1
  | 2 => bb_X1_mixChosen_2
  | 3 => bb_X1_mixChosen_3
  | 4 => bb_X1_mixChosen_4
  | _ => []
/-! SpillslotWorks.chosenNow(II)I -/
def bb_X1_chosenNow_0 : List sw_I := [sw_ld 2 0, sw_gf 0 2, sw_gf 3 0, sw_ld 0 1, sw_cv 24 m_J2_get 1, sw_ct [6], sw_sta 3, sw_ld 0 2, sw_sw [(0, 1, [false, false, false, true]), (1, 2, [false, false, false, true]), (2, 6, [false, false, true, true]), (3, 6, [false, false, true, true]), (4, 6, [false, false, true, true]), (5, 3, [false, false, false, true]), (6, 4, [false, false, false, true]), (7, 5, [false, false, false, true])] (6, [false, false, true, true])]
def bb_X1_chosenNow_1 : List sw_I := [sw_ld 2 3, sw_gf 6 0, sw_rv 0]
def bb_X1_chosenNow_2 : List sw_I := [sw_ld 2 3, sw_gf 6 1, sw_rv 0]
def bb_X1_chosenNow_3 : List sw_I := [sw_ld 2 3, sw_gf 6 3, sw_rv 0]
def bb_X1_chosenNow_4 : List sw_I := [sw_ld 2 3, sw_gf 6 4, sw_rv 0]
def bb_X1_chosenNow_5 : List sw_I := [sw_ld 2 3, sw_gf 6 5, sw_rv 0]
def bb_X1_chosenNow_6 : List sw_I := [sw_ld 2 3, sw_ld 0 2, sw_push (.int 2), sw_ii (fun x y => x - y), sw_cs m_X1_readAt 2, sw_rv 0]
def b_X1_chosenNow : sw_B := fun n => match n with
  | 0 => bb_X1_chosenNow_0
  | 1 => bb_X1_chosenNow_1
  | 2 => bb_X1_chosenNow_2
  | 3 => bb_X1_chosenNow_3
  | 4 => bb_X1_chosenNow_4
  | 5 => bb_X1_chosenNow_5
  | 6 => bb_X1_chosenNow_6
  | _ => []
/-! SpillslotWorks.readAt(LSpillslotWorks$Op;I)I -/
def bb_X1_readAt_0 : List sw_I := [sw_ld 0 1, sw_ld 2 0, sw_gf 6 2, sw_al, sw_ic 3 1 [false, false], sw_ld 2 0, sw_gf 6 2, sw_ld 0 1, sw_ald 64, sw_goto 2 [false, false]]
def bb_X1_readAt_1 : List sw_I := [sw_push (.int (-1)), sw_goto 2 [false, false]]
def bb_X1_readAt_2 : List sw_I := [sw_rv 0]
def b_X1_readAt : sw_B := fun n => match n with
  | 0 => bb_X1_readAt_0
  | 1 => bb_X1_readAt_1
  | 2 => bb_X1_readAt_2
  | _ => []
/-! SpillslotWorks.mixValues(J)J -/
def bb_X1_mixValues_0 : List sw_I := [sw_ld 3 1, sw_stl 3, sw_push (.int 0), sw_sti 5, sw_goto 1 [true, false, false, true, false, true, false]]
def bb_X1_mixValues_1 : List sw_I := [sw_ld 0 5, sw_ld 2 0, sw_gf 0 2, sw_gf 3 5, sw_ic 3 5 [false, false, false, true, false, false, false], sw_ld 2 0, sw_gf 0 2, sw_gf 3 1, sw_ld 0 5, sw_cv 7 m_X8_placeOf 1, sw_push (.int (-1)), sw_ic 1 2 [true, false, false, true, false, true, false], sw_goto 4 [true, false, false, true, false, true, false]]
def bb_X1_mixValues_2 : List sw_I := [sw_ld 3 3, sw_push (.int 1), sw_na 64, sw_dup, sw_push (.int 0), sw_ld 0 5, sw_ast 64, sw_cs m_X1_mix 2, sw_stl 3, sw_push (.int 0), sw_sti 6, sw_goto 3 [true, false, false, true, false, true, true]]
def bb_X1_mixValues_3 : List sw_I := [sw_ld 0 6, sw_push (.int 7), sw_ic 4 4 [true, false, false, true, false, true, false], sw_ld 3 3, sw_push (.int 1), sw_na 64, sw_dup, sw_push (.int 0), sw_ld 2 0, sw_gf 0 2, sw_gf 3 1, sw_ld 0 5, sw_cv 7 m_X8_of 1, sw_ld 0 6, sw_cs m_X1_lifeNow 2, sw_ast 64, sw_cs m_X1_mix 2, sw_stl 3, sw_inc 6 1, sw_goto 3 [true, false, false, true, false, true, true]]
def bb_X1_mixValues_4 : List sw_I := [sw_inc 5 1, sw_goto 1 [true, false, false, true, false, true, false]]
def bb_X1_mixValues_5 : List sw_I := [sw_ld 3 3, sw_rv 3]
def b_X1_mixValues : sw_B := fun n => match n with
  | 0 => bb_X1_mixValues_0
  | 1 => bb_X1_mixValues_1
  | 2 => bb_X1_mixValues_2
  | 3 => bb_X1_mixValues_3
  | 4 => bb_X1_mixValues_4
  | 5 => bb_X1_mixValues_5
  | _ => []
/-! SpillslotWorks.lifeNow(LSpillslotWorks$Life;I)I -/
def bb_X1_lifeNow_0 : List sw_I := [sw_ld 0 1, sw_sw [(0, 1, [true, false]), (1, 2, [true, false]), (2, 3, [true, false]), (3, 4, [true, false]), (4, 5, [true, false]), (5, 6, [true, false]), (6, 9, [true, false])] (10, [true, false])]
def bb_X1_lifeNow_1 : List sw_I := [sw_ld 2 0, sw_gf 8 1, sw_rv 0]
def bb_X1_lifeNow_2 : List sw_I := [sw_ld 2 0, sw_gf 8 2, sw_rv 0]
def bb_X1_lifeNow_3 : List sw_I := [sw_ld 2 0, sw_cv 8 m_X9_weight 0, sw_rv 0]
def bb_X1_lifeNow_4 : List sw_I := [sw_ld 2 0, sw_gf 8 7, sw_rv 0]
def bb_X1_lifeNow_5 : List sw_I := [sw_ld 2 0, sw_gf 8 9, sw_rv 0]
def bb_X1_lifeNow_6 : List sw_I := [sw_ld 2 0, sw_cv 8 m_X9_isRemade 0, sw_iz 0 7 [false, false], sw_push (.int 1), sw_goto 8 [false, false]]
def bb_X1_lifeNow_7 : List sw_I := [sw_push (.int 0), sw_goto 8 [false, false]]
def bb_X1_lifeNow_8 : List sw_I := [sw_rv 0]
def bb_X1_lifeNow_9 : List sw_I := [sw_ld 2 0, sw_gf 8 6, sw_rv 0]
def bb_X1_lifeNow_10 : List sw_I := [sw_ld 2 0, sw_gf 8 3, sw_ld 2 0, sw_gf 8 4, sw_ii (fun x y => x + y), sw_rv 0]
def b_X1_lifeNow : sw_B := fun n => match n with
  | 0 => bb_X1_lifeNow_0
  | 1 => bb_X1_lifeNow_1
  | 2 => bb_X1_lifeNow_2
  | 3 => bb_X1_lifeNow_3
  | 4 => bb_X1_lifeNow_4
  | 5 => bb_X1_lifeNow_5
  | 6 => bb_X1_lifeNow_6
  | 7 => bb_X1_lifeNow_7
  | 8 => bb_X1_lifeNow_8
  | 9 => bb_X1_lifeNow_9
  | 10 => bb_X1_lifeNow_10
  | _ => []
/-! SpillslotWorks.mixCode(J)J -/
def bb_X1_mixCode_0 : List sw_I := [sw_ld 3 1, sw_stl 3, sw_push (.int 0), sw_sti 5, sw_goto 1 [true, false, false, true, false, true, false]]
def bb_X1_mixCode_1 : List sw_I := [sw_ld 0 5, sw_ld 2 0, sw_gf 0 2, sw_gf 3 0, sw_cv 24 m_J2_size 0, sw_ic 3 4 [true, false, false, true, false, false, false], sw_push (.int 0), sw_sti 6, sw_goto 2 [true, false, false, true, false, true, true]]
def bb_X1_mixCode_2 : List sw_I := [sw_ld 0 6, sw_push (.int 3), sw_ic 4 3 [true, false, false, true, false, true, false], sw_ld 2 0, sw_gf 0 2, sw_gf 3 0, sw_ld 0 5, sw_cv 24 m_J2_get 1, sw_ct [6], sw_push (.int 9), sw_cv 6 m_X7_is 1, sw_iz 0 3 [true, false, false, true, false, true, false], sw_ld 3 3, sw_push (.int 1), sw_na 64, sw_dup, sw_push (.int 0), sw_ld 2 0, sw_ld 0 5, sw_ld 0 6, sw_cv 0 m_X1_mapNow 2, sw_ast 64, sw_cs m_X1_mix 2, sw_stl 3, sw_inc 6 1, sw_goto 2 [true, false, false, true, false, true, true]]
def bb_X1_mixCode_3 : List sw_I := [sw_inc 5 1, sw_goto 1 [true, false, false, true, false, true, false]]
def bb_X1_mixCode_4 : List sw_I := [sw_push (.int 0), sw_sti 5, sw_goto 5 [true, false, false, true, false, true, false]]
def bb_X1_mixCode_5 : List sw_I := [sw_ld 0 5, sw_ld 2 0, sw_gf 0 2, sw_gf 3 2, sw_cv 24 m_J2_size 0, sw_ic 3 8 [false, false, false, true, false, false, false], sw_push (.int 0), sw_sti 6, sw_goto 6 [true, false, false, true, false, true, true]]
def bb_X1_mixCode_6 : List sw_I := [sw_ld 0 6, sw_push (.int 5), sw_ic 4 7 [true, false, false, true, false, true, false], sw_ld 3 3, sw_push (.int 1), sw_na 64, sw_dup, sw_push (.int 0), sw_ld 2 0, sw_ld 0 5, sw_ld 0 6, sw_cv 0 m_X1_codeNow 2, sw_ast 64, sw_cs m_X1_mix 2, sw_stl 3, sw_inc 6 1, sw_goto 6 [true, false, false, true, false, true, true]]
def bb_X1_mixCode_7 : List sw_I := [sw_ld 3 3, sw_push (.int 1), sw_na 64, sw_dup, sw_push (.int 0), sw_ld 2 0, sw_gf 0 2, sw_gf 3 2, sw_ld 0 5, sw_cv 24 m_J2_get 1, sw_ct [10], sw_gf 10 6, sw_ast 64, sw_cs m_X1_mix 2, sw_stl 3, sw_inc 5 1, sw_goto 5 [true, false, false, true, false, true, false]]
def bb_X1_mixCode_8 : List sw_I := [sw_ld 3 3, sw_rv 3]
def b_X1_mixCode : sw_B := fun n => match n with
  | 0 => bb_X1_mixCode_0
  | 1 => bb_X1_mixCode_1
  | 2 => bb_X1_mixCode_2
  | 3 => bb_X1_mixCode_3
  | 4 => bb_X1_mixCode_4
  | 5 => bb_X1_mixCode_5
  | 6 => bb_X1_mixCode_6
  | 7 => bb_X1_mixCode_7
  | 8 => bb_X1_mixCode_8
  | _ => []
/-! SpillslotWorks.mapNow(II)I -/
def bb_X1_mapNow_0 : List sw_I := [sw_ld 0 2, sw_iz 1 1 [true, true, true, false, false, false, false, false], sw_ld 0 1, sw_rv 0]
def bb_X1_mapNow_1 : List sw_I := [sw_push (.int 0), sw_sti 3, sw_push (.int 0), sw_sti 4, sw_goto 2 [true, true, true, true, true, false, false, false]]
def bb_X1_mapNow_2 : List sw_I := [sw_ld 0 4, sw_ld 2 0, sw_gf 0 2, sw_gf 3 1, sw_gf 7 3, sw_cv 24 m_J2_size 0, sw_ic 3 11 [false, false, false, true, false, false, false, false], sw_ld 2 0, sw_gf 0 2, sw_gf 3 1, sw_gf 7 3, sw_ld 0 4, sw_cv 24 m_J2_get 1, sw_ct [8], sw_sta 5, sw_ld 0 2, sw_push (.int 1), sw_ic 1 3 [true, true, true, true, true, true, false, false], sw_ld 2 5, sw_gf 8 7, sw_goto 4 [true, true, true, true, true, true, false, false]]
def bb_X1_mapNow_3 : List sw_I := [sw_ld 2 5, sw_gf 8 9, sw_goto 4 [true, true, true, true, true, true, false, false]]
def bb_X1_mapNow_4 : List sw_I := [sw_sti 6, sw_ld 0 2, sw_push (.int 3), sw_ic 1 5 [true, true, true, true, true, true, true, false], sw_ld 2 5, sw_cv 8 m_X9_isRemade 0, sw_goto 7 [true, true, true, true, true, true, true, false]]
def bb_X1_mapNow_5 : List sw_I := [sw_ld 0 6, sw_push (.int (-1)), sw_ic 0 6 [true, true, true, true, true, true, true, false], sw_push (.int 1), sw_goto 7 [true, true, true, true, true, true, true, false]]
def bb_X1_mapNow_6 : List sw_I := [sw_push (.int 0), sw_goto 7 [true, true, true, true, true, true, true, false]]
def bb_X1_mapNow_7 : List sw_I := [sw_sti 7, sw_ld 2 5, sw_ld 0 1, sw_cv 8 m_X9_crosses 1, sw_iz 0 10 [true, true, true, true, true, false, false, false], sw_ld 0 7, sw_iz 0 10 [true, true, true, true, true, false, false, false], sw_ld 0 2, sw_push (.int 3), sw_ic 1 8 [true, true, true, true, true, false, true, false], sw_ld 0 3, sw_push (.int 1), sw_ii (fun x y => x + y), sw_goto 9 [true, true, true, false, true, false, false, false]]
def bb_X1_mapNow_8 : List sw_I := [sw_ld 0 3, sw_push (.int 1), sw_ld 0 6, sw_ii (fun x y => x <<< (y &&& 31)), sw_ii (fun x y => x ||| y), sw_goto 9 [true, true, true, false, true, false, false, false]]
def bb_X1_mapNow_9 : List sw_I := [sw_sti 3, sw_goto 10 [true, true, true, true, true, false, false, false]]
def bb_X1_mapNow_10 : List sw_I := [sw_inc 4 1, sw_goto 2 [true, true, true, true, true, false, false, false]]
def bb_X1_mapNow_11 : List sw_I := [sw_ld 0 3, sw_rv 0]
def b_X1_mapNow : sw_B := fun n => match n with
  | 0 => bb_X1_mapNow_0
  | 1 => bb_X1_mapNow_1
  | 2 => bb_X1_mapNow_2
  | 3 => bb_X1_mapNow_3
  | 4 => bb_X1_mapNow_4
  | 5 => bb_X1_mapNow_5
  | 6 => bb_X1_mapNow_6
  | 7 => bb_X1_mapNow_7
  | 8 => bb_X1_mapNow_8
  | 9 => bb_X1_mapNow_9
  | 10 => bb_X1_mapNow_10
  | 11 => bb_X1_mapNow_11
  | _ => []
/-! SpillslotWorks.codeNow(II)I -/
def bb_X1_codeNow_0 : List sw_I := [sw_ld 2 0, sw_gf 0 2, sw_gf 3 2, sw_ld 0 1, sw_cv 24 m_J2_get 1, sw_ct [10], sw_sta 3, sw_ld 0 2, sw_iz 1 1 [false, false, true, true], sw_ld 2 3, sw_gf 10 0, sw_goto 3 [false, false, false, false]]
def bb_X1_codeNow_1 : List sw_I := [sw_ld 0 2, sw_push (.int 5), sw_ic 1 2 [false, false, true, true], sw_ld 2 3, sw_gf 10 5, sw_goto 3 [false, false, false, false]]
def bb_X1_codeNow_2 : List sw_I := [sw_ld 2 3, sw_ld 0 2, sw_push (.int 1), sw_ii (fun x y => x - y), sw_cv 10 m_X11_operand 1, sw_goto 3 [false, false, false, false]]
def bb_X1_codeNow_3 : List sw_I := [sw_rv 0]
def b_X1_codeNow : sw_B := fun n => match n with
  | 0 => bb_X1_codeNow_0
  | 1 => bb_X1_codeNow_1
  | 2 => bb_X1_codeNow_2
  | 3 => bb_X1_codeNow_3
  | _ => []
/-! SpillslotWorks.machine(IIIZZ)I -/
def bb_X1_machine_0 : List sw_I := [sw_ld 0 1, sw_ld 0 2, sw_cs m_X1_mustBeMachine 2, sw_ld 0 3, sw_push (.int 0), sw_push (.int 99), sw_cs m_X1_mustBeIn 3, sw_ld 2 0, sw_gf 0 1, sw_gf 2 0, sw_sti 6, sw_ld 2 0, sw_nw 2 [.int 0, .int 0, .int 0, .int 0, .int 0, .null], sw_dup, sw_ld 0 1, sw_ld 0 2, sw_ld 0 3, sw_ld 0 4, sw_ld 0 5, sw_ld 2 0, sw_gf 0 1, sw_gf 2 5, sw_ci m_X3_init 6, sw_pf 0 1 2, sw_ld 2 0, sw_cv 0 m_X1_renew 0, sw_ld 0 6, sw_rv 0]
def b_X1_machine : sw_B := fun n => match n with
  | 0 => bb_X1_machine_0
  | _ => []
/-! SpillslotWorks.mustBeMachine(II)V -/
def bb_X1_mustBeMachine_0 : List sw_I := [sw_ld 0 0, sw_push (.int 5), sw_push (.int 11), sw_cs m_X1_mustBeIn 3, sw_push (.int 1), sw_ld 0 0, sw_push (.int 3), sw_ii (fun x y => x - y), sw_ii (fun x y => x <<< (y &&& 31)), sw_push (.int 4), sw_ii (fun x y => x - y), sw_sti 2, sw_ld 0 1, sw_iz 2 1 [false, false, false], sw_ld 0 1, sw_ld 0 2, sw_push (.int (-1)), sw_ii (fun x y => x ^^^ y), sw_ii (fun x y => x &&& y), sw_iz 1 1 [false, false, false], sw_push (.int 1), sw_goto 2 [false, false, false]]
def bb_X1_mustBeMachine_1 : List sw_I := [sw_push (.int 0), sw_goto 2 [false, false, false]]
def bb_X1_mustBeMachine_2 : List sw_I := [sw_cs m_X1_must 1, sw_ret]
def b_X1_mustBeMachine : sw_B := fun n => match n with
  | 0 => bb_X1_mustBeMachine_0
  | 1 => bb_X1_mustBeMachine_1
  | 2 => bb_X1_mustBeMachine_2
  | _ => []
/-! SpillslotWorks.mustBeIn(III)V -/
def bb_X1_mustBeIn_0 : List sw_I := [sw_ld 0 0, sw_ld 0 1, sw_ic 2 1 [false, false, false], sw_ld 0 0, sw_ld 0 2, sw_ic 4 1 [false, false, false], sw_push (.int 1), sw_goto 2 [false, false, false]]
def bb_X1_mustBeIn_1 : List sw_I := [sw_push (.int 0), sw_goto 2 [false, false, false]]
def bb_X1_mustBeIn_2 : List sw_I := [sw_cs m_X1_must 1, sw_ret]
def b_X1_mustBeIn : sw_B := fun n => match n with
  | 0 => bb_X1_mustBeIn_0
  | 1 => bb_X1_mustBeIn_1
  | 2 => bb_X1_mustBeIn_2
  | _ => []
/-! SpillslotWorks.must(Z)V -/
def bb_X1_must_0 : List sw_I := [sw_ld 0 0, sw_iz 1 1 [false], sw_thx 0]
def bb_X1_must_1 : List sw_I := [sw_ret]
def b_X1_must : sw_B := fun n => match n with
  | 0 => bb_X1_must_0
  | 1 => bb_X1_must_1
  | _ => []
/-! SpillslotWorks.renew()V -/
def bb_X1_renew_0 : List sw_I := [sw_ld 2 0, sw_nw 3 [.null, .null, .null, .null, .null, .int 0], sw_dup, sw_ld 2 0, sw_gf 0 0, sw_ld 2 0, sw_gf 0 1, sw_push (.int 0), sw_ci m_X4_init 3, sw_pf 0 2 2, sw_ret]
def b_X1_renew : sw_B := fun n => match n with
  | 0 => bb_X1_renew_0
  | _ => []
/-! SpillslotWorks.latency(II)I -/
def bb_X1_latency_0 : List sw_I := [sw_ld 0 1, sw_push (.int 8), sw_cs m_X1_checkPlace 2, sw_ld 0 2, sw_push (.int 1), sw_push (.int 9), sw_cs m_X1_mustBeIn 3, sw_ld 2 0, sw_gf 0 1, sw_gf 2 5, sw_ld 0 1, sw_ald 64, sw_sti 3, sw_ld 2 0, sw_ld 2 0, sw_gf 0 1, sw_ld 0 1, sw_ld 0 2, sw_cv 2 m_X3_with_2 2, sw_pf 0 1 2, sw_ld 2 0, sw_cv 0 m_X1_renew 0, sw_ld 0 3, sw_rv 0]
def b_X1_latency : sw_B := fun n => match n with
  | 0 => bb_X1_latency_0
  | _ => []
/-! SpillslotWorks.checkPlace(II)V -/
def bb_X1_checkPlace_0 : List sw_I := [sw_ld 0 0, sw_iz 2 1 [false, false], sw_ld 0 0, sw_ld 0 1, sw_ic 2 2 [false, false], sw_goto 1 [false, false]]
def bb_X1_checkPlace_1 : List sw_I := [sw_thx 2]
def bb_X1_checkPlace_2 : List sw_I := [sw_ret]
def b_X1_checkPlace : sw_B := fun n => match n with
  | 0 => bb_X1_checkPlace_0
  | 1 => bb_X1_checkPlace_1
  | 2 => bb_X1_checkPlace_2
  | _ => []
/-! SpillslotWorks.node(III)I -/
def bb_X1_node_0 : List sw_I := [sw_ld 0 1, sw_push (.int 0), sw_push (.int 5), sw_cs m_X1_mustBeIn 3, sw_nw 15 [.null, .int 0, .int 0, .int 0], sw_dup, sw_ld 0 1, sw_cs m_X1_kindOf 1, sw_ld 0 2, sw_ld 0 3, sw_ci m_X16_init 3, sw_sta 4, sw_ld 2 4, sw_cv 15 m_X16_isOfTwo 0, sw_iz 0 3 [true, true, true, true, true], sw_ld 2 0, sw_ld 0 2, sw_cv 0 m_X1_isFreeNode 1, sw_iz 0 1 [true, false, true, true, true], sw_ld 2 0, sw_ld 0 3, sw_cv 0 m_X1_isFreeNode 1, sw_iz 0 1 [true, false, true, true, true], sw_ld 0 2, sw_ld 0 3, sw_ic 0 1 [true, false, true, true, true], sw_push (.int 1), sw_goto 2 [true, false, true, true, true]]
def bb_X1_node_1 : List sw_I := [sw_push (.int 0), sw_goto 2 [true, false, true, true, true]]
def bb_X1_node_2 : List sw_I := [sw_cs m_X1_must 1, sw_goto 10 [true, false, true, true, true]]
def bb_X1_node_3 : List sw_I := [sw_ld 0 3, sw_iz 1 4 [true, true, true, true, true], sw_push (.int 1), sw_goto 5 [true, true, true, true, true]]
def bb_X1_node_4 : List sw_I := [sw_push (.int 0), sw_goto 5 [true, true, true, true, true]]
def bb_X1_node_5 : List sw_I := [sw_cs m_X1_must 1, sw_ld 0 2, sw_ld 0 1, sw_iz 1 6 [true, true, true, true, true], sw_push (.int (-999)), sw_goto 7 [true, true, true, true, true]]
def bb_X1_node_6 : List sw_I := [sw_push (.int 0), sw_goto 7 [true, true, true, true, true]]
def bb_X1_node_7 : List sw_I := [sw_ld 0 1, sw_iz 1 8 [true, false, true, true, true], sw_push (.int 999), sw_goto 9 [true, false, true, true, true]]
def bb_X1_node_8 : List sw_I := [sw_push (.int 7), sw_goto 9 [true, false, true, true, true]]
def bb_X1_node_9 : List sw_I := [sw_cs m_X1_mustBeIn 3, sw_goto 10 [true, false, true, true, true]]
def bb_X1_node_10 : List sw_I := [sw_ld 2 0, sw_gf 0 0, sw_gf 1 0, sw_cv 24 m_J2_size 0, sw_push (.int 80), sw_ic 3 11 [true, false, true, true, true], sw_push (.int 1), sw_goto 12 [true, false, true, true, true]]
def bb_X1_node_11 : List sw_I := [sw_push (.int 0), sw_goto 12 [true, false, true, true, true]]
def bb_X1_node_12 : List sw_I := [sw_cs m_X1_checkState 1, sw_ld 2 4, sw_cv 15 m_X16_isOfTwo 0, sw_iz 0 13 [true, false, false, false, true], sw_ld 2 0, sw_gf 0 0, sw_ld 0 2, sw_cv 1 m_X2_at 1, sw_push (.int 1), sw_pf 15 3 1, sw_ld 2 0, sw_gf 0 0, sw_ld 0 3, sw_cv 1 m_X2_at 1, sw_push (.int 1), sw_pf 15 3 1, sw_goto 13 [true, false, false, false, true]]
def bb_X1_node_13 : List sw_I := [sw_ld 2 0, sw_gf 0 0, sw_gf 1 0, sw_ld 2 4, sw_cv 24 m_J2_add 1, sw_pop, sw_ld 2 0, sw_cv 0 m_X1_renew 0, sw_ld 2 0, sw_gf 0 0, sw_gf 1 0, sw_cv 24 m_J2_size 0, sw_push (.int 1), sw_ii (fun x y => x - y), sw_rv 0]
def b_X1_node : sw_B := fun n => match n with
  | 0 => bb_X1_node_0
  | 1 => bb_X1_node_1
  | 2 => bb_X1_node_2
  | 3 => bb_X1_node_3
  | 4 => bb_X1_node_4
  | 5 => bb_X1_node_5
  | 6 => bb_X1_node_6
  | 7 => bb_X1_node_7
  | 8 => bb_X1_node_8
  | 9 => bb_X1_node_9
  | 10 => bb_X1_node_10
  | 11 => bb_X1_node_11
  | 12 => bb_X1_node_12
  | 13 => bb_X1_node_13
  | _ => []
/-! SpillslotWorks.kindOf(I)LSpillslotWorks$Kind; -/
def bb_X1_kindOf_0 : List sw_I := [sw_ld 0 0, sw_sw [(0, 1, [false]), (1, 2, [false]), (2, 3, [false]), (3, 4, [false]), (4, 5, [false])] (6, [false])]
def bb_X1_kindOf_1 : List sw_I := [sw_gs 0, sw_rv 2]
def bb_X1_kindOf_2 : List sw_I := [sw_gs 1, sw_rv 2]
def bb_X1_kindOf_3 : List sw_I := [sw_gs 2, sw_rv 2]
def bb_X1_kindOf_4 : List sw_I := [sw_gs 3, sw_rv 2]
def bb_X1_kindOf_5 : List sw_I := [sw_gs 4, sw_rv 2]
def bb_X1_kindOf_6 : List sw_I := [sw_gs 5, sw_rv 2]
def b_X1_kindOf : sw_B := fun n => match n with
  | 0 => bb_X1_kindOf_0
  | 1 => bb_X1_kindOf_1
  | 2 => bb_X1_kindOf_2
  | 3 => bb_X1_kindOf_3
  | 4 => bb_X1_kindOf_4
  | 5 => bb_X1_kindOf_5
  | 6 => bb_X1_kindOf_6
  | _ => []
/-! SpillslotWorks.isFreeNode(I)Z -/
def bb_X1_isFreeNode_0 : List sw_I := [sw_ld 0 1, sw_iz 2 1 [false, false], sw_ld 0 1, sw_ld 2 0, sw_gf 0 0, sw_gf 1 0, sw_cv 24 m_J2_size 0, sw_ic 3 1 [false, false], sw_ld 2 0, sw_gf 0 0, sw_ld 0 1, sw_cv 1 m_X2_at 1, sw_gf 15 3, sw_iz 1 1 [false, false], sw_push (.int 1), sw_goto 2 [false, false]]
def bb_X1_isFreeNode_1 : List sw_I := [sw_push (.int 0), sw_goto 2 [false, false]]
def bb_X1_isFreeNode_2 : List sw_I := [sw_rv 1]
def b_X1_isFreeNode : sw_B := fun n => match n with
  | 0 => bb_X1_isFreeNode_0
  | 1 => bb_X1_isFreeNode_1
  | 2 => bb_X1_isFreeNode_2
  | _ => []
/-! SpillslotWorks.checkState(Z)V -/
def bb_X1_checkState_0 : List sw_I := [sw_ld 0 0, sw_iz 1 1 [false], sw_thx 1]
def bb_X1_checkState_1 : List sw_I := [sw_ret]
def b_X1_checkState : sw_B := fun n => match n with
  | 0 => bb_X1_checkState_0
  | 1 => bb_X1_checkState_1
  | _ => []
/-! SpillslotWorks.statement(III)I -/
def bb_X1_statement_0 : List sw_I := [sw_ld 0 1, sw_cs m_X1_checkBlock 1, sw_ld 0 2, sw_push (.int 8), sw_cs m_X1_checkPlace 2, sw_ld 0 3, sw_ld 2 0, sw_gf 0 0, sw_gf 1 0, sw_cv 24 m_J2_size 0, sw_cs m_X1_checkPlace 2, sw_ld 2 0, sw_gf 0 0, sw_ld 0 3, sw_cv 1 m_X2_at 1, sw_gf 15 3, sw_iz 1 1 [true, true, true, true, false], sw_push (.int 1), sw_goto 2 [true, true, true, true, false]]
def bb_X1_statement_1 : List sw_I := [sw_push (.int 0), sw_goto 2 [true, true, true, true, false]]
def bb_X1_statement_2 : List sw_I := [sw_cs m_X1_must 1, sw_ld 2 0, sw_gf 0 0, sw_cv 1 m_X2_statements 0, sw_push (.int 24), sw_ic 3 3 [true, true, true, true, false], sw_push (.int 1), sw_goto 4 [true, true, true, true, false]]
def bb_X1_statement_3 : List sw_I := [sw_push (.int 0), sw_goto 4 [true, true, true, true, false]]
def bb_X1_statement_4 : List sw_I := [sw_cs m_X1_checkState 1, sw_ld 2 0, sw_gf 0 0, sw_ld 0 3, sw_cv 1 m_X2_at 1, sw_push (.int 1), sw_pf 15 3 1, sw_ld 2 0, sw_gf 0 0, sw_gf 1 1, sw_ld 0 1, sw_cv 24 m_J2_get 1, sw_ct [24], sw_sta 4, sw_ld 2 4, sw_nw 17 [.int 0, .int 0], sw_dup, sw_ld 0 2, sw_ld 0 3, sw_ci m_X18_init 2, sw_cv 24 m_J2_add 1, sw_pop, sw_ld 2 0, sw_cv 0 m_X1_renew 0, sw_ld 2 4, sw_cv 24 m_J2_size 0, sw_rv 0]
def b_X1_statement : sw_B := fun n => match n with
  | 0 => bb_X1_statement_0
  | 1 => bb_X1_statement_1
  | 2 => bb_X1_statement_2
  | 3 => bb_X1_statement_3
  | 4 => bb_X1_statement_4
  | _ => []
/-! SpillslotWorks.checkBlock(I)V -/
def bb_X1_checkBlock_0 : List sw_I := [sw_ld 0 0, sw_push (.int 4), sw_cs m_X1_checkPlace 2, sw_ret]
def b_X1_checkBlock : sw_B := fun n => match n with
  | 0 => bb_X1_checkBlock_0
  | _ => []
/-! SpillslotWorks.take(I)I -/
def bb_X1_take_0 : List sw_I := [sw_ld 0 1, sw_cs m_X1_checkBlock 1, sw_ld 2 0, sw_gf 0 0, sw_gf 1 1, sw_ld 0 1, sw_cv 24 m_J2_get 1, sw_ct [24], sw_sta 2, sw_ld 2 2, sw_cv 24 m_J2_isEmpty 0, sw_iz 1 1 [true, false, true, false], sw_push (.int 1), sw_goto 2 [true, false, true, false]]
def bb_X1_take_1 : List sw_I := [sw_push (.int 0), sw_goto 2 [true, false, true, false]]
def bb_X1_take_2 : List sw_I := [sw_cs m_X1_checkState 1, sw_ld 2 2, sw_ld 2 2, sw_cv 24 m_J2_size 0, sw_push (.int 1), sw_ii (fun x y => x - y), sw_cv 24 m_J2_get 1, sw_ct [17], sw_gf 17 1, sw_sti 3, sw_ld 2 2, sw_ld 2 2, sw_cv 24 m_J2_size 0, sw_push (.int 1), sw_ii (fun x y => x - y), sw_cv 24 m_J2_remove 1, sw_pop, sw_ld 2 0, sw_gf 0 0, sw_ld 0 3, sw_cv 1 m_X2_at 1, sw_push (.int 0), sw_pf 15 3 1, sw_ld 2 0, sw_cv 0 m_X1_renew 0, sw_ld 0 3, sw_rv 0]
def b_X1_take : sw_B := fun n => match n with
  | 0 => bb_X1_take_0
  | 1 => bb_X1_take_1
  | 2 => bb_X1_take_2
  | _ => []
/-! SpillslotWorks.times(II)I -/
def bb_X1_times_0 : List sw_I := [sw_ld 0 1, sw_cs m_X1_checkBlock 1, sw_ld 0 2, sw_push (.int 1), sw_push (.int 9), sw_cs m_X1_mustBeIn 3, sw_ld 2 0, sw_gf 0 0, sw_gf 1 2, sw_ld 0 1, sw_ald 64, sw_sti 3, sw_ld 2 0, sw_gf 0 0, sw_gf 1 2, sw_ld 0 1, sw_ld 0 2, sw_ast 64, sw_ld 2 0, sw_cv 0 m_X1_renew 0, sw_ld 0 3, sw_rv 0]
def b_X1_times : sw_B := fun n => match n with
  | 0 => bb_X1_times_0
  | _ => []
/-! SpillslotWorks.out(I)I -/
def bb_X1_out_0 : List sw_I := [sw_ld 0 1, sw_push (.int 0), sw_push (.int 255), sw_cs m_X1_mustBeIn 3, sw_ld 2 0, sw_gf 0 0, sw_gf 1 3, sw_sti 2, sw_ld 2 0, sw_gf 0 0, sw_ld 0 1, sw_pf 1 3 0, sw_ld 2 0, sw_cv 0 m_X1_renew 0, sw_ld 0 2, sw_rv 0]
def b_X1_out : sw_B := fun n => match n with
  | 0 => bb_X1_out_0
  | _ => []
/-! SpillslotWorks.meant(I)I -/
def bb_X1_meant_0 : List sw_I := [sw_ld 0 1, sw_push (.int 8), sw_cs m_X1_checkPlace 2, sw_ld 2 0, sw_gf 0 0, sw_cv 1 m_X2_meant 0, sw_ld 0 1, sw_ald 64, sw_rv 0]
def b_X1_meant : sw_B := fun n => match n with
  | 0 => bb_X1_meant_0
  | _ => []
/-! SpillslotWorks.chosen(II)I -/
def bb_X1_chosen_0 : List sw_I := [sw_ld 0 1, sw_ld 2 0, sw_gf 0 2, sw_gf 3 0, sw_cv 24 m_J2_size 0, sw_cs m_X1_checkPlace 2, sw_ld 0 2, sw_push (.int 0), sw_push (.int 7), sw_cs m_X1_mustBeIn 3, sw_ld 2 0, sw_ld 0 1, sw_ld 0 2, sw_cv 0 m_X1_chosenNow 2, sw_rv 0]
def b_X1_chosen : sw_B := fun n => match n with
  | 0 => bb_X1_chosen_0
  | _ => []
/-! SpillslotWorks.ofValue(II)I -/
def bb_X1_ofValue_0 : List sw_I := [sw_ld 2 0, sw_gf 0 2, sw_gf 3 1, sw_ld 0 1, sw_cv 7 m_X8_placeOf 1, sw_ld 2 0, sw_gf 0 2, sw_gf 3 1, sw_gf 7 3, sw_cv 24 m_J2_size 0, sw_cs m_X1_checkPlace 2, sw_ld 0 2, sw_push (.int 0), sw_push (.int 7), sw_cs m_X1_mustBeIn 3, sw_ld 2 0, sw_gf 0 2, sw_gf 3 1, sw_ld 0 1, sw_cv 7 m_X8_of 1, sw_ld 0 2, sw_cs m_X1_lifeNow 2, sw_rv 0]
def b_X1_ofValue : sw_B := fun n => match n with
  | 0 => bb_X1_ofValue_0
  | _ => []
/-! SpillslotWorks.mapAt(II)I -/
def bb_X1_mapAt_0 : List sw_I := [sw_ld 0 1, sw_iz 3 1 [true, true, true, false], sw_push (.int (-1)), sw_goto 2 [true, false, true, false]]
def bb_X1_mapAt_1 : List sw_I := [sw_ld 2 0, sw_ld 0 1, sw_cv 0 m_X1_pointOf 1, sw_goto 2 [true, false, true, false]]
def bb_X1_mapAt_2 : List sw_I := [sw_sti 3, sw_ld 0 3, sw_push (.int (-1)), sw_ic 1 3 [true, false, true, true], sw_thx 2]
def bb_X1_mapAt_3 : List sw_I := [sw_ld 0 2, sw_push (.int 0), sw_push (.int 3), sw_cs m_X1_mustBeIn 3, sw_ld 2 0, sw_ld 0 3, sw_ld 0 2, sw_cv 0 m_X1_mapNow 2, sw_rv 0]
def b_X1_mapAt : sw_B := fun n => match n with
  | 0 => bb_X1_mapAt_0
  | 1 => bb_X1_mapAt_1
  | 2 => bb_X1_mapAt_2
  | 3 => bb_X1_mapAt_3
  | _ => []
/-! SpillslotWorks.pointOf(I)I -/
def bb_X1_pointOf_0 : List sw_I := [sw_push (.int 0), sw_sti 2, sw_push (.int 0), sw_sti 3, sw_goto 1 [true, true, true, true]]
def bb_X1_pointOf_1 : List sw_I := [sw_ld 0 3, sw_ld 2 0, sw_gf 0 2, sw_gf 3 0, sw_cv 24 m_J2_size 0, sw_ic 3 4 [false, false, false, false], sw_ld 2 0, sw_gf 0 2, sw_gf 3 0, sw_ld 0 3, sw_cv 24 m_J2_get 1, sw_ct [6], sw_push (.int 9), sw_cv 6 m_X7_is 1, sw_iz 0 3 [true, true, true, true], sw_ld 0 2, sw_ld 0 1, sw_ic 1 2 [true, true, true, true], sw_ld 0 3, sw_rv 0]
def bb_X1_pointOf_2 : List sw_I := [sw_inc 2 1, sw_goto 3 [true, true, true, true]]
def bb_X1_pointOf_3 : List sw_I := [sw_inc 3 1, sw_goto 1 [true, true, true, true]]
def bb_X1_pointOf_4 : List sw_I := [sw_push (.int (-1)), sw_rv 0]
def b_X1_pointOf : sw_B := fun n => match n with
  | 0 => bb_X1_pointOf_0
  | 1 => bb_X1_pointOf_1
  | 2 => bb_X1_pointOf_2
  | 3 => bb_X1_pointOf_3
  | 4 => bb_X1_pointOf_4
  | _ => []
/-! SpillslotWorks.cost(I)I -/
def bb_X1_cost_0 : List sw_I := [sw_ld 0 1, sw_ld 2 0, sw_gf 0 0, sw_gf 1 0, sw_cv 24 m_J2_size 0, sw_cs m_X1_checkPlace 2, sw_ld 2 0, sw_gf 0 2, sw_gf 3 4, sw_ld 0 1, sw_ald 64, sw_rv 0]
def b_X1_cost : sw_B := fun n => match n with
  | 0 => bb_X1_cost_0
  | _ => []
/-! SpillslotWorks.code(II)I -/
def bb_X1_code_0 : List sw_I := [sw_ld 0 1, sw_ld 2 0, sw_gf 0 2, sw_gf 3 2, sw_cv 24 m_J2_size 0, sw_cs m_X1_checkPlace 2, sw_ld 0 2, sw_push (.int 0), sw_push (.int 5), sw_cs m_X1_mustBeIn 3, sw_ld 2 0, sw_ld 0 1, sw_ld 0 2, sw_cv 0 m_X1_codeNow 2, sw_rv 0]
def b_X1_code : sw_B := fun n => match n with
  | 0 => bb_X1_code_0
  | _ => []
/-! SpillslotWorks.begins(I)I -/
def bb_X1_begins_0 : List sw_I := [sw_ld 0 1, sw_ld 2 0, sw_gf 0 2, sw_gf 3 2, sw_cv 24 m_J2_size 0, sw_cs m_X1_checkPlace 2, sw_ld 2 0, sw_gf 0 2, sw_gf 3 2, sw_ld 0 1, sw_cv 24 m_J2_get 1, sw_ct [10], sw_gf 10 6, sw_rv 0]
def b_X1_begins : sw_B := fun n => match n with
  | 0 => bb_X1_begins_0
  | _ => []
/-! SpillslotWorks.answer(I)I -/
def bb_X1_answer_0 : List sw_I := [sw_ld 0 1, sw_push (.int 8), sw_cs m_X1_checkPlace 2, sw_ld 2 0, sw_gf 0 0, sw_gf 1 3, sw_ld 0 1, sw_cs m_X1_has 2, sw_iz 0 1 [true, true], sw_push (.int 0), sw_goto 2 [true, true]]
def bb_X1_answer_1 : List sw_I := [sw_push (.int (-1)), sw_goto 2 [true, true]]
def bb_X1_answer_2 : List sw_I := [sw_push (.int 1), sw_cs m_X1_checkPlace 2, sw_ld 2 0, sw_gf 0 2, sw_ld 0 1, sw_cv 3 m_X4_answer 1, sw_rv 0]
def b_X1_answer : sw_B := fun n => match n with
  | 0 => bb_X1_answer_0
  | 1 => bb_X1_answer_1
  | 2 => bb_X1_answer_2
  | _ => []
/-! SpillslotWorks.many(I)I -/
def bb_X1_many_0 : List sw_I := [sw_ld 0 1, sw_push (.int 0), sw_push (.int 15), sw_cs m_X1_mustBeIn 3, sw_ld 2 0, sw_ld 0 1, sw_cv 0 m_X1_manyNow 1, sw_rv 0]
def b_X1_many : sw_B := fun n => match n with
  | 0 => bb_X1_many_0
  | _ => []
/-! SpillslotWorks.with(IIZI)I -/
def bb_X1_with_0 : List sw_I := [sw_ld 0 1, sw_ld 0 2, sw_cs m_X1_mustBeMachine 2, sw_ld 0 4, sw_push (.int 3), sw_push (.int 15), sw_cs m_X1_mustBeIn 3, sw_ld 2 0, sw_ld 2 0, sw_gf 0 1, sw_ld 0 1, sw_ld 0 2, sw_ld 0 3, sw_cv 2 m_X3_with 3, sw_cv 0 m_X1_buildWith 1, sw_ld 0 4, sw_cv 3 m_X4_many 1, sw_rv 0]
def b_X1_with : sw_B := fun n => match n with
  | 0 => bb_X1_with_0
  | _ => []
/-! SpillslotWorks.cyclesWith(II)I -/
def bb_X1_cyclesWith_0 : List sw_I := [sw_ld 0 1, sw_push (.int 8), sw_cs m_X1_checkPlace 2, sw_ld 0 2, sw_push (.int 1), sw_push (.int 9), sw_cs m_X1_mustBeIn 3, sw_ld 2 0, sw_ld 2 0, sw_gf 0 1, sw_ld 0 1, sw_ld 0 2, sw_cv 2 m_X3_with_2 2, sw_cv 0 m_X1_buildWith 1, sw_gf 3 3, sw_gf 11 7, sw_rv 0]
def b_X1_cyclesWith : sw_B := fun n => match n with
  | 0 => bb_X1_cyclesWith_0
  | _ => []
/-! SpillslotWorks$Writer.<init>(LSpillslotWorks$Lives;LSpillslotWorks$Machine;)V -/
def bb_X10_init_0 : List sw_I := [sw_ld 2 0, sw_oin, sw_ld 2 0, sw_nw 24 [.int 0, .null, .int 0], sw_dup, sw_ci m_J2_init 0, sw_pf 9 2 2, sw_ld 2 0, sw_ld 2 1, sw_pf 9 0 2, sw_ld 2 0, sw_ld 2 2, sw_pf 9 1 2, sw_ret]
def b_X10_init : sw_B := fun n => match n with
  | 0 => bb_X10_init_0
  | _ => []
/-! SpillslotWorks$Writer.all(Ljava/util/List;)Ljava/util/List; -/
def bb_X10_all_0 : List sw_I := [sw_ld 2 0, sw_push (.int 0), sw_pf 9 3 0, sw_goto 1 [true, true, false, false]]
def bb_X10_all_1 : List sw_I := [sw_ld 2 0, sw_gf 9 3, sw_ld 2 1, sw_cv 24 m_J2_size 0, sw_ic 3 4 [true, false, false, false], sw_ld 2 1, sw_ld 2 0, sw_gf 9 3, sw_cv 24 m_J2_get 1, sw_ct [6], sw_sta 2, sw_ld 2 0, sw_gf 9 0, sw_ld 2 2, sw_gf 6 1, sw_cv 7 m_X8_of 1, sw_sta 3, sw_ld 2 2, sw_push (.int 9), sw_cv 6 m_X7_is 1, sw_iz 0 2 [true, true, true, true], sw_ld 2 0, sw_ld 2 2, sw_ld 2 3, sw_cv 9 m_X10_writeCall 2, sw_goto 3 [true, true, false, false]]
def bb_X10_all_2 : List sw_I := [sw_ld 2 3, sw_cv 8 m_X9_isRemade 0, sw_iz 1 3 [true, true, false, false], sw_ld 2 0, sw_ld 2 2, sw_ld 2 3, sw_cv 9 m_X10_writePlain 2, sw_goto 3 [true, true, false, false]]
def bb_X10_all_3 : List sw_I := [sw_ld 2 0, sw_dup, sw_gf 9 3, sw_push (.int 1), sw_ii (fun x y => x + y), sw_pf 9 3 0, sw_goto 1 [true, true, false, false]]
def bb_X10_all_4 : List sw_I := [sw_ld 2 0, sw_gf 9 2, sw_rv 2]
def b_X10_all : sw_B := fun n => match n with
  | 0 => bb_X10_all_0
  | 1 => bb_X10_all_1
  | 2 => bb_X10_all_2
  | 3 => bb_X10_all_3
  | 4 => bb_X10_all_4
  | _ => []
/-! SpillslotWorks$Writer.writeCall(LSpillslotWorks$Op;LSpillslotWorks$Life;)V -/
def bb_X10_writeCall_0 : List sw_I := [sw_ld 2 0, sw_gf 9 0, sw_ld 2 1, sw_gf 6 2, sw_push (.int 0), sw_ald 64, sw_cv 7 m_X8_of 1, sw_gf 8 7, sw_sti 3, sw_ld 2 0, sw_gf 9 0, sw_ld 2 1, sw_gf 6 2, sw_push (.int 1), sw_ald 64, sw_cv 7 m_X8_of 1, sw_gf 8 7, sw_sti 4, sw_ld 0 3, sw_push (.int 1), sw_ic 1 1 [true, true, true, false, true], sw_ld 0 4, sw_iz 1 1 [true, true, true, false, true], sw_ld 2 0, sw_ld 2 0, sw_gf 9 1, sw_cv 2 m_X3_scratch 0, sw_push (.int 0), sw_cv 9 m_X10_move 2, sw_ld 2 0, sw_push (.int 0), sw_push (.int 1), sw_cv 9 m_X10_move 2, sw_ld 2 0, sw_push (.int 1), sw_ld 2 0, sw_gf 9 1, sw_cv 2 m_X3_scratch 0, sw_cv 9 m_X10_move 2, sw_goto 3 [true, false, true, false, false]]
def bb_X10_writeCall_1 : List sw_I := [sw_ld 0 4, sw_iz 1 2 [true, true, true, false, false], sw_ld 2 0, sw_ld 2 1, sw_gf 6 2, sw_push (.int 1), sw_ald 64, sw_push (.int 1), sw_cv 9 m_X10_bring 2, sw_ld 2 0, sw_ld 2 1, sw_gf 6 2, sw_push (.int 0), sw_ald 64, sw_push (.int 0), sw_cv 9 m_X10_bring 2, sw_goto 3 [true, false, true, false, false]]
def bb_X10_writeCall_2 : List sw_I := [sw_ld 2 0, sw_ld 2 1, sw_gf 6 2, sw_push (.int 0), sw_ald 64, sw_push (.int 0), sw_cv 9 m_X10_bring 2, sw_ld 2 0, sw_ld 2 1, sw_gf 6 2, sw_push (.int 1), sw_ald 64, sw_push (.int 1), sw_cv 9 m_X10_bring 2, sw_goto 3 [true, false, true, false, false]]
def bb_X10_writeCall_3 : List sw_I := [sw_ld 2 0, sw_push (.int 9), sw_push (.int 0), sw_push (.int 0), sw_cv 9 m_X10_put 3, sw_ld 2 2, sw_gf 8 8, sw_iz 0 4 [true, false, true, false, false], sw_ld 2 0, sw_push (.int 8), sw_push (.int 0), sw_ld 2 2, sw_gf 8 9, sw_cv 9 m_X10_put 3, sw_goto 5 [false, false, false, false, false]]
def bb_X10_writeCall_4 : List sw_I := [sw_ld 2 0, sw_ld 2 2, sw_gf 8 7, sw_push (.int 0), sw_cv 9 m_X10_move 2, sw_goto 5 [false, false, false, false, false]]
def bb_X10_writeCall_5 : List sw_I := [sw_ret]
def b_X10_writeCall : sw_B := fun n => match n with
  | 0 => bb_X10_writeCall_0
  | 1 => bb_X10_writeCall_1
  | 2 => bb_X10_writeCall_2
  | 3 => bb_X10_writeCall_3
  | 4 => bb_X10_writeCall_4
  | 5 => bb_X10_writeCall_5
  | _ => []
/-! SpillslotWorks$Writer.move(II)V -/
def bb_X10_move_0 : List sw_I := [sw_ld 0 1, sw_ld 0 2, sw_ic 0 1 [false, false, false], sw_ld 2 0, sw_push (.int 1), sw_ld 0 1, sw_ld 0 2, sw_cv 9 m_X10_put 3, sw_goto 1 [false, false, false]]
def bb_X10_move_1 : List sw_I := [sw_ret]
def b_X10_move : sw_B := fun n => match n with
  | 0 => bb_X10_move_0
  | 1 => bb_X10_move_1
  | _ => []
/-! SpillslotWorks$Writer.put(III)V -/
def bb_X10_put_0 : List sw_I := [sw_ld 2 0, sw_ld 0 1, sw_ld 0 2, sw_ld 0 3, sw_push (.int 0), sw_push (.int 0), sw_cv 9 m_X10_put_2 5, sw_ret]
def b_X10_put : sw_B := fun n => match n with
  | 0 => bb_X10_put_0
  | _ => []
/-! SpillslotWorks$Writer.put(IIIII)V -/
def bb_X10_put_2_0 : List sw_I := [sw_ld 2 0, sw_gf 9 2, sw_nw 10 [.int 0, .int 0, .int 0, .int 0, .int 0, .int 0, .int 0], sw_dup, sw_ld 0 1, sw_ld 2 0, sw_gf 9 3, sw_ld 0 2, sw_ld 0 3, sw_ld 0 4, sw_ld 0 5, sw_ci m_X11_init 6, sw_cv 24 m_J2_add 1, sw_pop, sw_ret]
def b_X10_put_2 : sw_B := fun n => match n with
  | 0 => bb_X10_put_2_0
  | _ => []
/-! SpillslotWorks$Writer.bring(II)V -/
def bb_X10_bring_0 : List sw_I := [sw_ld 2 0, sw_gf 9 0, sw_ld 0 1, sw_cv 7 m_X8_of 1, sw_sta 3, sw_ld 2 3, sw_cv 8 m_X9_isRemade 0, sw_iz 0 1 [true, false, true, true], sw_ld 2 0, sw_push (.int 0), sw_ld 0 2, sw_ld 2 3, sw_gf 8 10, sw_gf 6 3, sw_cv 9 m_X10_put 3, sw_goto 3 [false, false, false, false]]
def bb_X10_bring_1 : List sw_I := [sw_ld 2 3, sw_gf 8 8, sw_iz 0 2 [true, false, true, true], sw_ld 2 0, sw_push (.int 7), sw_ld 0 2, sw_ld 2 3, sw_gf 8 9, sw_cv 9 m_X10_put 3, sw_goto 3 [false, false, false, false]]
def bb_X10_bring_2 : List sw_I := [sw_ld 2 0, sw_ld 0 2, sw_ld 2 3, sw_gf 8 7, sw_cv 9 m_X10_move 2, sw_goto 3 [false, false, false, false]]
def bb_X10_bring_3 : List sw_I := [sw_ret]
def b_X10_bring : sw_B := fun n => match n with
  | 0 => bb_X10_bring_0
  | 1 => bb_X10_bring_1
  | 2 => bb_X10_bring_2
  | 3 => bb_X10_bring_3
  | _ => []
/-! SpillslotWorks$Writer.writePlain(LSpillslotWorks$Op;LSpillslotWorks$Life;)V -/
def bb_X10_writePlain_0 : List sw_I := [sw_ld 2 0, sw_ld 2 1, sw_cv 9 m_X10_readsOf 1, sw_sta 3, sw_ld 2 2, sw_gf 8 8, sw_iz 0 1 [true, true, true, true, false], sw_ld 2 0, sw_gf 9 1, sw_cv 2 m_X3_scratch 0, sw_goto 2 [true, true, true, true, false]]
def bb_X10_writePlain_1 : List sw_I := [sw_ld 2 2, sw_gf 8 7, sw_goto 2 [true, true, true, true, false]]
def bb_X10_writePlain_2 : List sw_I := [sw_sti 4, sw_ld 2 1, sw_push (.int 0), sw_cv 6 m_X7_is 1, sw_iz 0 3 [true, true, true, true, true], sw_ld 2 0, sw_push (.int 0), sw_ld 0 4, sw_ld 2 1, sw_gf 6 3, sw_cv 9 m_X10_put 3, sw_goto 6 [true, false, true, false, true]]
def bb_X10_writePlain_3 : List sw_I := [sw_ld 2 1, sw_push (.int 1), sw_cv 6 m_X7_is 1, sw_iz 0 4 [true, true, true, true, true], sw_ld 2 0, sw_ld 0 4, sw_ld 2 3, sw_push (.int 0), sw_ald 64, sw_cv 9 m_X10_move 2, sw_goto 6 [true, false, true, false, true]]
def bb_X10_writePlain_4 : List sw_I := [sw_ld 2 0, sw_gf 9 1, sw_gf 2 4, sw_iz 0 5 [true, true, true, true, true], sw_ld 2 0, sw_ld 2 1, sw_ld 0 4, sw_ld 2 3, sw_cv 9 m_X10_writeTwo 3, sw_goto 6 [true, false, true, false, true]]
def bb_X10_writePlain_5 : List sw_I := [sw_ld 2 0, sw_ld 2 1, sw_ld 0 4, sw_ld 2 3, sw_cv 9 m_X10_reckon 3, sw_goto 6 [true, false, true, false, true]]
def bb_X10_writePlain_6 : List sw_I := [sw_ld 2 0, sw_ld 2 2, sw_ld 0 4, sw_cv 9 m_X10_storeFrom 2, sw_ret]
def b_X10_writePlain : sw_B := fun n => match n with
  | 0 => bb_X10_writePlain_0
  | 1 => bb_X10_writePlain_1
  | 2 => bb_X10_writePlain_2
  | 3 => bb_X10_writePlain_3
  | 4 => bb_X10_writePlain_4
  | 5 => bb_X10_writePlain_5
  | 6 => bb_X10_writePlain_6
  | _ => []
/-! SpillslotWorks$Writer.readsOf(LSpillslotWorks$Op;)[I -/
def bb_X10_readsOf_0 : List sw_I := [sw_ld 2 1, sw_gf 6 2, sw_al, sw_na 64, sw_sta 2, sw_push (.int 0), sw_sti 3, sw_goto 1 [true, true, true, true, false]]
def bb_X10_readsOf_1 : List sw_I := [sw_ld 0 3, sw_ld 2 2, sw_al, sw_ic 3 5 [false, false, true, false, false], sw_ld 2 0, sw_gf 9 0, sw_ld 2 1, sw_gf 6 2, sw_ld 0 3, sw_ald 64, sw_cv 7 m_X8_of 1, sw_sta 4, sw_ld 2 2, sw_ld 0 3, sw_ld 2 4, sw_gf 8 8, sw_iz 0 2 [true, true, true, true, true], sw_ld 2 0, sw_gf 9 1, sw_cv 2 m_X3_scratch 0, sw_ld 0 3, sw_ii (fun x y => x + y), sw_goto 3 [true, true, true, true, true]]
def bb_X10_readsOf_2 : List sw_I := [sw_ld 2 4, sw_gf 8 7, sw_goto 3 [true, true, true, true, true]]
def bb_X10_readsOf_3 : List sw_I := [sw_ast 64, sw_ld 2 4, sw_gf 8 8, sw_iz 0 4 [true, true, true, true, false], sw_ld 2 0, sw_ld 2 4, sw_gf 8 0, sw_ld 2 2, sw_ld 0 3, sw_ald 64, sw_cv 9 m_X10_bring 2, sw_goto 4 [true, true, true, true, false]]
def bb_X10_readsOf_4 : List sw_I := [sw_inc 3 1, sw_goto 1 [true, true, true, true, false]]
def bb_X10_readsOf_5 : List sw_I := [sw_ld 2 2, sw_rv 2]
def b_X10_readsOf : sw_B := fun n => match n with
  | 0 => bb_X10_readsOf_0
  | 1 => bb_X10_readsOf_1
  | 2 => bb_X10_readsOf_2
  | 3 => bb_X10_readsOf_3
  | 4 => bb_X10_readsOf_4
  | 5 => bb_X10_readsOf_5
  | _ => []
/-! SpillslotWorks$Writer.writeTwo(LSpillslotWorks$Op;I[I)V -/
def bb_X10_writeTwo_0 : List sw_I := [sw_push (.int 0), sw_sti 4, sw_push (.int 1), sw_sti 5, sw_goto 1 [true, true, true, true, true, true]]
def bb_X10_writeTwo_1 : List sw_I := [sw_ld 0 5, sw_ld 2 3, sw_al, sw_ic 3 4 [true, true, true, true, true, false], sw_ld 0 4, sw_ld 2 3, sw_ld 0 5, sw_ald 64, sw_ld 0 2, sw_ic 1 2 [true, true, true, true, false, true], sw_push (.int 1), sw_goto 3 [true, true, true, true, false, true]]
def bb_X10_writeTwo_2 : List sw_I := [sw_push (.int 0), sw_goto 3 [true, true, true, true, false, true]]
def bb_X10_writeTwo_3 : List sw_I := [sw_ii (fun x y => x ||| y), sw_sti 4, sw_inc 5 1, sw_goto 1 [true, true, true, true, true, true]]
def bb_X10_writeTwo_4 : List sw_I := [sw_ld 2 3, sw_push (.int 0), sw_ald 64, sw_ld 0 2, sw_ic 0 5 [true, true, true, true, false, false], sw_ld 0 4, sw_iz 1 6 [true, true, true, true, false, false], sw_goto 5 [true, true, true, true, false, false]]
def bb_X10_writeTwo_5 : List sw_I := [sw_ld 2 0, sw_ld 2 1, sw_ld 0 2, sw_ld 2 3, sw_cv 9 m_X10_reckonIn 3, sw_goto 9 [false, false, false, false, false, false]]
def bb_X10_writeTwo_6 : List sw_I := [sw_ld 2 1, sw_push (.int 2), sw_cv 6 m_X7_is 1, sw_iz 1 7 [true, true, true, true, false, false], sw_ld 2 1, sw_push (.int 4), sw_cv 6 m_X7_is 1, sw_iz 0 8 [true, true, true, true, false, false], sw_goto 7 [true, true, true, true, false, false]]
def bb_X10_writeTwo_7 : List sw_I := [sw_ld 2 0, sw_ld 2 1, sw_gf 6 0, sw_ld 0 2, sw_ld 0 2, sw_ld 2 3, sw_push (.int 0), sw_ald 64, sw_push (.int 0), sw_cv 9 m_X10_put_2 5, sw_goto 9 [false, false, false, false, false, false]]
def bb_X10_writeTwo_8 : List sw_I := [sw_ld 2 0, sw_ld 2 1, sw_ld 2 0, sw_gf 9 1, sw_cv 2 m_X3_scratch 0, sw_ld 2 3, sw_cv 9 m_X10_reckonIn 3, sw_ld 2 0, sw_ld 0 2, sw_ld 2 0, sw_gf 9 1, sw_cv 2 m_X3_scratch 0, sw_cv 9 m_X10_move 2, sw_goto 9 [false, false, false, false, false, false]]
def bb_X10_writeTwo_9 : List sw_I := [sw_ret]
def b_X10_writeTwo : sw_B := fun n => match n with
  | 0 => bb_X10_writeTwo_0
  | 1 => bb_X10_writeTwo_1
  | 2 => bb_X10_writeTwo_2
  | 3 => bb_X10_writeTwo_3
  | 4 => bb_X10_writeTwo_4
  | 5 => bb_X10_writeTwo_5
  | 6 => bb_X10_writeTwo_6
  | 7 => bb_X10_writeTwo_7
  | 8 => bb_X10_writeTwo_8
  | 9 => bb_X10_writeTwo_9
  | _ => []
/-! SpillslotWorks$Writer.reckonIn(LSpillslotWorks$Op;I[I)V -/
def bb_X10_reckonIn_0 : List sw_I := [sw_ld 2 0, sw_ld 0 2, sw_ld 2 3, sw_push (.int 0), sw_ald 64, sw_cv 9 m_X10_move 2, sw_ld 2 3, sw_push (.int 0), sw_ld 0 2, sw_ast 64, sw_ld 2 0, sw_ld 2 1, sw_ld 0 2, sw_ld 2 3, sw_cv 9 m_X10_reckon 3, sw_ret]
def b_X10_reckonIn : sw_B := fun n => match n with
  | 0 => bb_X10_reckonIn_0
  | _ => []
/-! SpillslotWorks$Writer.reckon(LSpillslotWorks$Op;I[I)V -/
def bb_X10_reckon_0 : List sw_I := [sw_ld 2 1, sw_gf 6 0, sw_sw [(5, 1, [true, true, true, true]), (6, 2, [true, false, true, true])] (3, [true, true, true, true])]
def bb_X10_reckon_1 : List sw_I := [sw_ld 2 0, sw_push (.int 5), sw_ld 0 2, sw_ld 2 3, sw_push (.int 0), sw_ald 64, sw_ld 2 1, sw_gf 6 3, sw_push (.int 0), sw_cv 9 m_X10_put_2 5, sw_goto 4 [false, false, false, false]]
def bb_X10_reckon_2 : List sw_I := [sw_ld 2 0, sw_push (.int 6), sw_ld 0 2, sw_ld 2 3, sw_push (.int 0), sw_ald 64, sw_ld 2 3, sw_push (.int 1), sw_ald 64, sw_ld 2 3, sw_push (.int 2), sw_ald 64, sw_cv 9 m_X10_put_2 5, sw_goto 4 [false, false, false, false]]
def bb_X10_reckon_3 : List sw_I := [sw_ld 2 0, sw_ld 2 1, sw_gf 6 0, sw_ld 0 2, sw_ld 2 3, sw_push (.int 0), sw_ald 64, sw_ld 2 3, sw_push (.int 1), sw_ald 64, sw_push (.int 0), sw_cv 9 m_X10_put_2 5, sw_goto 4 [false, false, false, false]]
def bb_X10_reckon_4 : List sw_I := [sw_ret]
def b_X10_reckon : sw_B := fun n => match n with
  | 0 => bb_X10_reckon_0
  | 1 => bb_X10_reckon_1
  | 2 => bb_X10_reckon_2
  | 3 => bb_X10_reckon_3
  | 4 => bb_X10_reckon_4
  | _ => []
/-! SpillslotWorks$Writer.storeFrom(LSpillslotWorks$Life;I)V -/
def bb_X10_storeFrom_0 : List sw_I := [sw_ld 2 1, sw_gf 8 8, sw_iz 0 1 [false, false, false], sw_ld 2 0, sw_push (.int 8), sw_ld 0 2, sw_ld 2 1, sw_gf 8 9, sw_cv 9 m_X10_put 3, sw_goto 1 [false, false, false]]
def bb_X10_storeFrom_1 : List sw_I := [sw_ret]
def b_X10_storeFrom : sw_B := fun n => match n with
  | 0 => bb_X10_storeFrom_0
  | 1 => bb_X10_storeFrom_1
  | _ => []
/-! SpillslotWorks$Instruction.<init>(IIIIII)V -/
def bb_X11_init_0 : List sw_I := [sw_ld 2 0, sw_oin, sw_ld 2 0, sw_push (.int (-1)), sw_pf 10 6 0, sw_ld 2 0, sw_ld 0 1, sw_pf 10 0 0, sw_ld 2 0, sw_ld 0 2, sw_pf 10 5 0, sw_ld 2 0, sw_ld 0 3, sw_pf 10 1 0, sw_ld 2 0, sw_ld 0 4, sw_pf 10 2 0, sw_ld 2 0, sw_ld 0 5, sw_pf 10 3 0, sw_ld 2 0, sw_ld 0 6, sw_pf 10 4 0, sw_ret]
def b_X11_init : sw_B := fun n => match n with
  | 0 => bb_X11_init_0
  | _ => []
/-! SpillslotWorks$Instruction.operand(I)I -/
def bb_X11_operand_0 : List sw_I := [sw_ld 0 1, sw_iz 1 1 [true, true], sw_ld 2 0, sw_gf 10 1, sw_goto 4 [false, false]]
def bb_X11_operand_1 : List sw_I := [sw_ld 0 1, sw_push (.int 1), sw_ic 1 2 [true, true], sw_ld 2 0, sw_gf 10 2, sw_goto 4 [false, false]]
def bb_X11_operand_2 : List sw_I := [sw_ld 0 1, sw_push (.int 2), sw_ic 1 3 [true, false], sw_ld 2 0, sw_gf 10 3, sw_goto 4 [false, false]]
def bb_X11_operand_3 : List sw_I := [sw_ld 2 0, sw_gf 10 4, sw_goto 4 [false, false]]
def bb_X11_operand_4 : List sw_I := [sw_rv 0]
def b_X11_operand : sw_B := fun n => match n with
  | 0 => bb_X11_operand_0
  | 1 => bb_X11_operand_1
  | 2 => bb_X11_operand_2
  | 3 => bb_X11_operand_3
  | 4 => bb_X11_operand_4
  | _ => []
/-! SpillslotWorks$Run.<init>(LSpillslotWorks$Machine;I)V -/
def bb_X12_init_0 : List sw_I := [sw_ld 2 0, sw_oin, sw_ld 2 0, sw_push (.int 11), sw_na 64, sw_pf 11 1 2, sw_ld 2 0, sw_push (.int 11), sw_na 64, sw_pf 11 2 2, sw_ld 2 0, sw_push (.int (-1)), sw_pf 11 5 0, sw_ld 2 0, sw_ld 2 1, sw_pf 11 0 2, sw_ld 2 0, sw_ld 0 2, sw_na 64, sw_pf 11 3 2, sw_ret]
def b_X12_init : sw_B := fun n => match n with
  | 0 => bb_X12_init_0
  | _ => []
/-! SpillslotWorks$Run.run(Ljava/util/List;Ljava/util/List;I)V -/
def bb_X12_run_0 : List sw_I := [sw_push (.int 0), sw_sti 4, sw_goto 1 [true, true, true, true, true]]
def bb_X12_run_1 : List sw_I := [sw_ld 0 4, sw_ld 2 1, sw_cv 24 m_J2_size 0, sw_ic 3 3 [false, false, false, false, false], sw_ld 2 2, sw_ld 2 1, sw_ld 0 4, sw_cv 24 m_J2_get 1, sw_ct [10], sw_gf 10 5, sw_cv 24 m_J2_get 1, sw_ct [6], sw_gf 6 4, sw_ld 0 3, sw_ic 1 2 [true, true, true, true, true], sw_ld 2 0, sw_ld 2 1, sw_ld 0 4, sw_cv 24 m_J2_get 1, sw_ct [10], sw_cv 11 m_X12_step 1, sw_goto 2 [true, true, true, true, true]]
def bb_X12_run_2 : List sw_I := [sw_inc 4 1, sw_goto 1 [true, true, true, true, true]]
def bb_X12_run_3 : List sw_I := [sw_ret]
def b_X12_run : sw_B := fun n => match n with
  | 0 => bb_X12_run_0
  | 1 => bb_X12_run_1
  | 2 => bb_X12_run_2
  | 3 => bb_X12_run_3
  | _ => []
/-! SpillslotWorks$Run.step(LSpillslotWorks$Instruction;)V -/
def bb_X12_step_0 : List sw_I := [sw_ld 2 0, sw_gf 11 5, sw_push (.int 1), sw_ii (fun x y => x + y), sw_sti 2, sw_ld 2 1, sw_gf 10 0, sw_push (.int 9), sw_ic 1 1 [true, true, true, false, false], sw_ld 0 2, sw_ld 2 0, sw_gf 11 2, sw_push (.int 0), sw_ald 64, sw_ld 2 0, sw_gf 11 2, sw_push (.int 1), sw_ald 64, sw_mm sw_max, sw_mm sw_max, sw_goto 2 [true, true, true, false, false]]
def bb_X12_step_1 : List sw_I := [sw_ld 0 2, sw_goto 2 [true, true, true, false, false]]
def bb_X12_step_2 : List sw_I := [sw_sti 3, sw_ld 2 1, sw_gf 10 0, sw_cs m_X12_firstRead 1, sw_sti 4, sw_goto 3 [true, true, true, true, true]]
def bb_X12_step_3 : List sw_I := [sw_ld 0 4, sw_ld 2 1, sw_gf 10 0, sw_cs m_X12_lastRead 1, sw_ic 4 4 [true, true, true, true, false], sw_ld 0 3, sw_ld 2 0, sw_gf 11 2, sw_ld 2 1, sw_ld 0 4, sw_cv 10 m_X11_operand 1, sw_ald 64, sw_mm sw_max, sw_sti 3, sw_inc 4 1, sw_goto 3 [true, true, true, true, true]]
def bb_X12_step_4 : List sw_I := [sw_ld 2 0, sw_dup, sw_gf 11 6, sw_ld 0 3, sw_ld 0 2, sw_ii (fun x y => x - y), sw_ii (fun x y => x + y), sw_pf 11 6 0, sw_ld 2 0, sw_ld 0 3, sw_pf 11 5 0, sw_ld 2 0, sw_dup, sw_gf 11 4, sw_push (.int 1), sw_ii (fun x y => x + y), sw_pf 11 4 0, sw_ld 2 1, sw_ld 2 1, sw_gf 10 6, sw_push (.int (-1)), sw_ic 1 5 [true, true, false, true, false], sw_ld 0 3, sw_goto 6 [true, true, false, true, false]]
def bb_X12_step_5 : List sw_I := [sw_ld 2 1, sw_gf 10 6, sw_goto 6 [true, true, false, true, false]]
def bb_X12_step_6 : List sw_I := [sw_pf 10 6 0, sw_ld 2 0, sw_ld 0 3, sw_ld 2 0, sw_gf 11 0, sw_ld 2 1, sw_gf 10 0, sw_cv 2 m_X3_latency 1, sw_ii (fun x y => x + y), sw_pf 11 7 0, sw_ld 2 0, sw_ld 2 1, sw_cv 11 m_X12_act 1, sw_ret]
def b_X12_step : sw_B := fun n => match n with
  | 0 => bb_X12_step_0
  | 1 => bb_X12_step_1
  | 2 => bb_X12_step_2
  | 3 => bb_X12_step_3
  | 4 => bb_X12_step_4
  | 5 => bb_X12_step_5
  | 6 => bb_X12_step_6
  | _ => []
/-! SpillslotWorks$Run.firstRead(I)I -/
def bb_X12_firstRead_0 : List sw_I := [sw_ld 0 0, sw_push (.int 8), sw_ic 1 1 [false], sw_push (.int 0), sw_goto 2 [false]]
def bb_X12_firstRead_1 : List sw_I := [sw_push (.int 1), sw_goto 2 [false]]
def bb_X12_firstRead_2 : List sw_I := [sw_rv 0]
def b_X12_firstRead : sw_B := fun n => match n with
  | 0 => bb_X12_firstRead_0
  | 1 => bb_X12_firstRead_1
  | 2 => bb_X12_firstRead_2
  | _ => []
/-! SpillslotWorks$Run.lastRead(I)I -/
def bb_X12_lastRead_0 : List sw_I := [sw_ld 0 0, sw_sw [(0, 1, [false]), (1, 3, [false]), (2, 5, [false]), (3, 5, [false]), (4, 5, [false]), (5, 3, [false]), (6, 4, [false]), (7, 1, [false]), (8, 2, [false]), (9, 1, [false])] (5, [false])]
def bb_X12_lastRead_1 : List sw_I := [sw_push (.int (-1)), sw_rv 0]
def bb_X12_lastRead_2 : List sw_I := [sw_push (.int 0), sw_rv 0]
def bb_X12_lastRead_3 : List sw_I := [sw_push (.int 1), sw_rv 0]
def bb_X12_lastRead_4 : List sw_I := [sw_push (.int 3), sw_rv 0]
def bb_X12_lastRead_5 : List sw_I := [sw_push (.int 2), sw_rv 0]
def b_X12_lastRead : sw_B := fun n => match n with
  | 0 => bb_X12_lastRead_0
  | 1 => bb_X12_lastRead_1
  | 2 => bb_X12_lastRead_2
  | 3 => bb_X12_lastRead_3
  | 4 => bb_X12_lastRead_4
  | 5 => bb_X12_lastRead_5
  | _ => []
/-! SpillslotWorks$Run.act(LSpillslotWorks$Instruction;)V -/
def bb_X12_act_0 : List sw_I := [sw_ld 2 1, sw_gf 10 0, sw_sw [(8, 1, [true, true]), (9, 2, [true, false])] (3, [true, true])]
def bb_X12_act_1 : List sw_I := [sw_ld 2 0, sw_gf 11 3, sw_ld 2 1, sw_push (.int 1), sw_cv 10 m_X11_operand 1, sw_ld 2 0, sw_ld 2 1, sw_push (.int 0), sw_cv 11 m_X12_at 2, sw_ast 64, sw_goto 4 [false, false]]
def bb_X12_act_2 : List sw_I := [sw_ld 2 0, sw_cv 11 m_X12_call 0, sw_goto 4 [false, false]]
def bb_X12_act_3 : List sw_I := [sw_ld 2 0, sw_gf 11 1, sw_ld 2 1, sw_push (.int 0), sw_cv 10 m_X11_operand 1, sw_ld 2 0, sw_ld 2 1, sw_cv 11 m_X12_reckoned 1, sw_ast 64, sw_ld 2 0, sw_gf 11 2, sw_ld 2 1, sw_push (.int 0), sw_cv 10 m_X11_operand 1, sw_ld 2 0, sw_gf 11 7, sw_ast 64, sw_goto 4 [false, false]]
def bb_X12_act_4 : List sw_I := [sw_ret]
def b_X12_act : sw_B := fun n => match n with
  | 0 => bb_X12_act_0
  | 1 => bb_X12_act_1
  | 2 => bb_X12_act_2
  | 3 => bb_X12_act_3
  | 4 => bb_X12_act_4
  | _ => []
/-! SpillslotWorks$Run.at(LSpillslotWorks$Instruction;I)I -/
def bb_X12_at_0 : List sw_I := [sw_ld 2 0, sw_gf 11 1, sw_ld 2 1, sw_ld 0 2, sw_cv 10 m_X11_operand 1, sw_ald 64, sw_rv 0]
def b_X12_at : sw_B := fun n => match n with
  | 0 => bb_X12_at_0
  | _ => []
/-! SpillslotWorks$Run.call()V -/
def bb_X12_call_0 : List sw_I := [sw_ld 2 0, sw_gf 11 1, sw_push (.int 0), sw_ald 64, sw_ld 2 0, sw_gf 11 1, sw_push (.int 1), sw_ald 64, sw_cs m_X1_callOf 2, sw_sti 1, sw_push (.int 0), sw_sti 2, sw_goto 1 [true, true, true]]
def bb_X12_call_1 : List sw_I := [sw_ld 0 2, sw_ld 2 0, sw_gf 11 0, sw_gf 2 0, sw_ic 3 3 [true, true, false], sw_ld 2 0, sw_gf 11 0, sw_ld 0 2, sw_cv 2 m_X3_isKept 1, sw_iz 1 2 [true, true, true], sw_ld 2 0, sw_gf 11 1, sw_ld 0 2, sw_push (.int (-77777)), sw_ast 64, sw_ld 2 0, sw_gf 11 2, sw_ld 0 2, sw_ld 2 0, sw_gf 11 5, sw_ast 64, sw_goto 2 [true, true, true]]
def bb_X12_call_2 : List sw_I := [sw_inc 2 1, sw_goto 1 [true, true, true]]
def bb_X12_call_3 : List sw_I := [sw_ld 2 0, sw_gf 11 1, sw_push (.int 0), sw_ld 0 1, sw_ast 64, sw_ld 2 0, sw_gf 11 2, sw_push (.int 0), sw_ld 2 0, sw_gf 11 7, sw_ast 64, sw_ret]
def b_X12_call : sw_B := fun n => match n with
  | 0 => bb_X12_call_0
  | 1 => bb_X12_call_1
  | 2 => bb_X12_call_2
  | 3 => bb_X12_call_3
  | _ => []
/-! SpillslotWorks$Run.reckoned(LSpillslotWorks$Instruction;)I -/
def bb_X12_reckoned_0 : List sw_I := [sw_ld 2 1, sw_gf 10 0, sw_sw [(0, 1, [false, true]), (1, 2, [true, true]), (2, 3, [true, true]), (3, 4, [true, true]), (4, 5, [true, true]), (5, 6, [true, true]), (6, 7, [true, true])] (8, [true, true])]
def bb_X12_reckoned_1 : List sw_I := [sw_ld 2 1, sw_push (.int 1), sw_cv 10 m_X11_operand 1, sw_rv 0]
def bb_X12_reckoned_2 : List sw_I := [sw_ld 2 0, sw_ld 2 1, sw_push (.int 1), sw_cv 11 m_X12_at 2, sw_rv 0]
def bb_X12_reckoned_3 : List sw_I := [sw_ld 2 0, sw_ld 2 1, sw_push (.int 1), sw_cv 11 m_X12_at 2, sw_ld 2 0, sw_ld 2 1, sw_push (.int 2), sw_cv 11 m_X12_at 2, sw_ii (fun x y => x + y), sw_rv 0]
def bb_X12_reckoned_4 : List sw_I := [sw_ld 2 0, sw_ld 2 1, sw_push (.int 1), sw_cv 11 m_X12_at 2, sw_ld 2 0, sw_ld 2 1, sw_push (.int 2), sw_cv 11 m_X12_at 2, sw_ii (fun x y => x - y), sw_rv 0]
def bb_X12_reckoned_5 : List sw_I := [sw_ld 2 0, sw_ld 2 1, sw_push (.int 1), sw_cv 11 m_X12_at 2, sw_ld 2 0, sw_ld 2 1, sw_push (.int 2), sw_cv 11 m_X12_at 2, sw_ii (fun x y => x * y), sw_rv 0]
def bb_X12_reckoned_6 : List sw_I := [sw_ld 2 0, sw_ld 2 1, sw_push (.int 1), sw_cv 11 m_X12_at 2, sw_ld 2 1, sw_push (.int 2), sw_cv 10 m_X11_operand 1, sw_ii (fun x y => x + y), sw_rv 0]
def bb_X12_reckoned_7 : List sw_I := [sw_ld 2 0, sw_ld 2 1, sw_push (.int 1), sw_cv 11 m_X12_at 2, sw_ld 2 0, sw_ld 2 1, sw_push (.int 2), sw_cv 11 m_X12_at 2, sw_ii (fun x y => x * y), sw_ld 2 0, sw_ld 2 1, sw_push (.int 3), sw_cv 11 m_X12_at 2, sw_ii (fun x y => x + y), sw_rv 0]
def bb_X12_reckoned_8 : List sw_I := [sw_ld 2 0, sw_gf 11 3, sw_ld 2 1, sw_push (.int 1), sw_cv 10 m_X11_operand 1, sw_ald 64, sw_rv 0]
def b_X12_reckoned : sw_B := fun n => match n with
  | 0 => bb_X12_reckoned_0
  | 1 => bb_X12_reckoned_1
  | 2 => bb_X12_reckoned_2
  | 3 => bb_X12_reckoned_3
  | 4 => bb_X12_reckoned_4
  | 5 => bb_X12_reckoned_5
  | 6 => bb_X12_reckoned_6
  | 7 => bb_X12_reckoned_7
  | 8 => bb_X12_reckoned_8
  | _ => []
/-! SpillslotWorksModel.<init>()V -/
def bb_X13_init_0 : List sw_I := [sw_ld 2 0, sw_oin, sw_ld 2 0, sw_nw 13 [.null, .null, .null, .null, .int 0], sw_dup, sw_ci m_X14_init 0, sw_pf 12 1 2, sw_ld 2 0, sw_nw 14 [.int 0, .int 0, .int 0, .int 0, .int 0], sw_dup, sw_push (.int 8), sw_push (.int 28), sw_push (.int 15), sw_push (.int 1), sw_push (.int 0), sw_ci m_X15_init 5, sw_pf 12 2 2, sw_ret]
def b_X13_init : sw_B := fun n => match n with
  | 0 => bb_X13_init_0
  | _ => []
/-! SpillslotWorksModel.thrown()I -/
def bb_X13_thrown_0 : List sw_I := [sw_ld 2 0, sw_gf 12 0, sw_rv 0]
def b_X13_thrown : sw_B := fun n => match n with
  | 0 => bb_X13_thrown_0
  | _ => []
/-! SpillslotWorksModel.machine(IIIZZ)I -/
def bb_X13_machine_0 : List sw_I := [sw_ld 2 0, sw_ld 0 1, sw_ld 0 2, sw_cs m_X13_isNoMachine 2, sw_iz 1 1 [true, true, true, true, true, true, false], sw_ld 0 3, sw_push (.int 0), sw_push (.int 99), sw_cs m_X13_isIn 3, sw_iz 1 2 [true, true, true, true, true, true, false], sw_goto 1 [true, true, true, true, true, true, false]]
def bb_X13_machine_1 : List sw_I := [sw_push (.int 1), sw_goto 3 [true, true, true, true, true, true, false]]
def bb_X13_machine_2 : List sw_I := [sw_push (.int 0), sw_goto 3 [true, true, true, true, true, true, false]]
def bb_X13_machine_3 : List sw_I := [sw_push (.int 1), sw_cv 12 m_X13_start 2, sw_iz 0 4 [true, true, true, true, true, true, false], sw_push (.int 0), sw_rv 0]
def bb_X13_machine_4 : List sw_I := [sw_ld 2 0, sw_gf 12 2, sw_gf 14 0, sw_sti 6, sw_ld 2 0, sw_nw 14 [.int 0, .int 0, .int 0, .int 0, .int 0], sw_dup, sw_ld 0 1, sw_ld 0 2, sw_ld 0 3, sw_ld 0 4, sw_ld 0 5, sw_ci m_X15_init 5, sw_pf 12 2 2, sw_ld 0 6, sw_rv 0]
def b_X13_machine : sw_B := fun n => match n with
  | 0 => bb_X13_machine_0
  | 1 => bb_X13_machine_1
  | 2 => bb_X13_machine_2
  | 3 => bb_X13_machine_3
  | 4 => bb_X13_machine_4
  | _ => []
/-! SpillslotWorksModel.isNoMachine(II)Z -/
def bb_X13_isNoMachine_0 : List sw_I := [sw_ld 0 0, sw_push (.int 5), sw_push (.int 11), sw_cs m_X13_isIn 3, sw_iz 1 1 [true, true, false], sw_push (.int 1), sw_rv 1]
def bb_X13_isNoMachine_1 : List sw_I := [sw_push (.int 1), sw_ld 0 0, sw_push (.int 3), sw_ii (fun x y => x - y), sw_ii (fun x y => x <<< (y &&& 31)), sw_push (.int 4), sw_ii (fun x y => x - y), sw_sti 2, sw_ld 0 1, sw_iz 2 2 [false, false, false], sw_ld 0 1, sw_ld 0 2, sw_push (.int (-1)), sw_ii (fun x y => x ^^^ y), sw_ii (fun x y => x &&& y), sw_iz 0 3 [false, false, false], sw_goto 2 [false, false, false]]
def bb_X13_isNoMachine_2 : List sw_I := [sw_push (.int 1), sw_goto 4 [false, false, false]]
def bb_X13_isNoMachine_3 : List sw_I := [sw_push (.int 0), sw_goto 4 [false, false, false]]
def bb_X13_isNoMachine_4 : List sw_I := [sw_rv 1]
def b_X13_isNoMachine : sw_B := fun n => match n with
  | 0 => bb_X13_isNoMachine_0
  | 1 => bb_X13_isNoMachine_1
  | 2 => bb_X13_isNoMachine_2
  | 3 => bb_X13_isNoMachine_3
  | 4 => bb_X13_isNoMachine_4
  | _ => []
/-! SpillslotWorksModel.isIn(III)Z -/
def bb_X13_isIn_0 : List sw_I := [sw_ld 0 0, sw_ld 0 1, sw_ic 2 1 [false, false, false], sw_ld 0 0, sw_ld 0 2, sw_ic 4 1 [false, false, false], sw_push (.int 1), sw_goto 2 [false, false, false]]
def bb_X13_isIn_1 : List sw_I := [sw_push (.int 0), sw_goto 2 [false, false, false]]
def bb_X13_isIn_2 : List sw_I := [sw_rv 1]
def b_X13_isIn : sw_B := fun n => match n with
  | 0 => bb_X13_isIn_0
  | 1 => bb_X13_isIn_1
  | 2 => bb_X13_isIn_2
  | _ => []
/-! SpillslotWorksModel.start(ZI)Z -/
def bb_X13_start_0 : List sw_I := [sw_ld 2 0, sw_push (.int 0), sw_pf 12 0 0, sw_ld 2 0, sw_ld 0 1, sw_ld 0 2, sw_cv 12 m_X13_refuse 2, sw_rv 1]
def b_X13_start : sw_B := fun n => match n with
  | 0 => bb_X13_start_0
  | _ => []
/-! SpillslotWorksModel.refuse(ZI)Z -/
def bb_X13_refuse_0 : List sw_I := [sw_ld 0 1, sw_iz 0 1 [true, false, false], sw_ld 2 0, sw_gf 12 0, sw_iz 1 1 [true, false, false], sw_ld 2 0, sw_ld 0 2, sw_pf 12 0 0, sw_goto 1 [true, false, false]]
def bb_X13_refuse_1 : List sw_I := [sw_ld 2 0, sw_gf 12 0, sw_iz 5 2 [false, false, false], sw_push (.int 1), sw_goto 3 [false, false, false]]
def bb_X13_refuse_2 : List sw_I := [sw_push (.int 0), sw_goto 3 [false, false, false]]
def bb_X13_refuse_3 : List sw_I := [sw_rv 1]
def b_X13_refuse : sw_B := fun n => match n with
  | 0 => bb_X13_refuse_0
  | 1 => bb_X13_refuse_1
  | 2 => bb_X13_refuse_2
  | 3 => bb_X13_refuse_3
  | _ => []
/-! SpillslotWorksModel.latency(II)I -/
def bb_X13_latency_0 : List sw_I := [sw_ld 2 0, sw_ld 0 1, sw_cs m_X13_isNoKind 1, sw_push (.int 1), sw_cv 12 m_X13_start 2, sw_iz 1 1 [false, false, false, false], sw_ld 2 0, sw_ld 0 2, sw_cs m_X13_isNoLatency 1, sw_push (.int 2), sw_cv 12 m_X13_refuse 2, sw_iz 0 2 [true, true, true, false], sw_goto 1 [false, false, false, false]]
def bb_X13_latency_1 : List sw_I := [sw_push (.int 0), sw_rv 0]
def bb_X13_latency_2 : List sw_I := [sw_ld 2 0, sw_gf 12 1, sw_gf 13 3, sw_ld 0 1, sw_ald 64, sw_sti 3, sw_ld 2 0, sw_gf 12 1, sw_gf 13 3, sw_ld 0 1, sw_ld 0 2, sw_ast 64, sw_ld 0 3, sw_rv 0]
def b_X13_latency : sw_B := fun n => match n with
  | 0 => bb_X13_latency_0
  | 1 => bb_X13_latency_1
  | 2 => bb_X13_latency_2
  | _ => []
/-! SpillslotWorksModel.isNoKind(I)Z -/
def bb_X13_isNoKind_0 : List sw_I := [sw_ld 0 0, sw_push (.int 0), sw_push (.int 7), sw_cs m_X13_isIn 3, sw_iz 1 1 [false], sw_push (.int 1), sw_goto 2 [false]]
def bb_X13_isNoKind_1 : List sw_I := [sw_push (.int 0), sw_goto 2 [false]]
def bb_X13_isNoKind_2 : List sw_I := [sw_rv 1]
def b_X13_isNoKind : sw_B := fun n => match n with
  | 0 => bb_X13_isNoKind_0
  | 1 => bb_X13_isNoKind_1
  | 2 => bb_X13_isNoKind_2
  | _ => []
/-! SpillslotWorksModel.isNoLatency(I)Z -/
def bb_X13_isNoLatency_0 : List sw_I := [sw_ld 0 0, sw_push (.int 1), sw_push (.int 9), sw_cs m_X13_isIn 3, sw_iz 1 1 [false], sw_push (.int 1), sw_goto 2 [false]]
def bb_X13_isNoLatency_1 : List sw_I := [sw_push (.int 0), sw_goto 2 [false]]
def bb_X13_isNoLatency_2 : List sw_I := [sw_rv 1]
def b_X13_isNoLatency : sw_B := fun n => match n with
  | 0 => bb_X13_isNoLatency_0
  | 1 => bb_X13_isNoLatency_1
  | 2 => bb_X13_isNoLatency_2
  | _ => []
/-! SpillslotWorksModel.node(III)I -/
def bb_X13_node_0 : List sw_I := [sw_ld 2 0, sw_ld 2 0, sw_ld 0 1, sw_ld 0 2, sw_ld 0 3, sw_cv 12 m_X13_isNode 3, sw_iz 1 1 [true, true, true, true, false], sw_push (.int 1), sw_goto 2 [true, true, true, true, false]]
def bb_X13_node_1 : List sw_I := [sw_push (.int 0), sw_goto 2 [true, true, true, true, false]]
def bb_X13_node_2 : List sw_I := [sw_push (.int 1), sw_cv 12 m_X13_start 2, sw_iz 1 5 [false, false, false, false, false], sw_ld 2 0, sw_ld 2 0, sw_gf 12 1, sw_gf 13 0, sw_cv 24 m_J2_size 0, sw_push (.int 80), sw_ic 1 3 [true, true, true, true, false], sw_push (.int 1), sw_goto 4 [true, true, true, true, false]]
def bb_X13_node_3 : List sw_I := [sw_push (.int 0), sw_goto 4 [true, true, true, true, false]]
def bb_X13_node_4 : List sw_I := [sw_push (.int 2), sw_cv 12 m_X13_refuse 2, sw_iz 0 6 [true, true, true, true, false], sw_goto 5 [false, false, false, false, false]]
def bb_X13_node_5 : List sw_I := [sw_push (.int 0), sw_rv 0]
def bb_X13_node_6 : List sw_I := [sw_nw 16 [.int 0, .int 0, .int 0, .int 0], sw_dup, sw_ld 0 1, sw_ld 0 2, sw_ld 0 3, sw_ci m_X17_init 3, sw_sta 4, sw_ld 2 0, sw_gf 12 1, sw_gf 13 0, sw_ld 2 4, sw_cv 24 m_J2_add 1, sw_pop, sw_ld 2 4, sw_cv 16 m_X17_isOfTwo 0, sw_iz 0 7 [true, false, false, false, false], sw_ld 2 0, sw_gf 12 1, sw_ld 0 2, sw_cv 13 m_X14_of 1, sw_push (.int 1), sw_pf 16 3 1, sw_ld 2 0, sw_gf 12 1, sw_ld 0 3, sw_cv 13 m_X14_of 1, sw_push (.int 1), sw_pf 16 3 1, sw_goto 7 [true, false, false, false, false]]
def bb_X13_node_7 : List sw_I := [sw_ld 2 0, sw_gf 12 1, sw_gf 13 0, sw_cv 24 m_J2_size 0, sw_push (.int 1), sw_ii (fun x y => x - y), sw_rv 0]
def b_X13_node : sw_B := fun n => match n with
  | 0 => bb_X13_node_0
  | 1 => bb_X13_node_1
  | 2 => bb_X13_node_2
  | 3 => bb_X13_node_3
  | 4 => bb_X13_node_4
  | 5 => bb_X13_node_5
  | 6 => bb_X13_node_6
  | 7 => bb_X13_node_7
  | _ => []
/-! SpillslotWorksModel.isNode(III)Z -/
def bb_X13_isNode_0 : List sw_I := [sw_ld 0 1, sw_iz 1 3 [true, true, true, true], sw_ld 0 2, sw_push (.int (-999)), sw_push (.int 999), sw_cs m_X13_isIn 3, sw_iz 0 1 [false, false, false, false], sw_ld 0 3, sw_iz 1 1 [false, false, false, false], sw_push (.int 1), sw_goto 2 [false, false, false, false]]
def bb_X13_isNode_1 : List sw_I := [sw_push (.int 0), sw_goto 2 [false, false, false, false]]
def bb_X13_isNode_2 : List sw_I := [sw_rv 1]
def bb_X13_isNode_3 : List sw_I := [sw_ld 0 1, sw_push (.int 1), sw_ic 1 6 [true, true, true, true], sw_ld 0 2, sw_push (.int 0), sw_push (.int 7), sw_cs m_X13_isIn 3, sw_iz 0 4 [false, false, false, false], sw_ld 0 3, sw_iz 1 4 [false, false, false, false], sw_push (.int 1), sw_goto 5 [false, false, false, false]]
def bb_X13_isNode_4 : List sw_I := [sw_push (.int 0), sw_goto 5 [false, false, false, false]]
def bb_X13_isNode_5 : List sw_I := [sw_rv 1]
def bb_X13_isNode_6 : List sw_I := [sw_ld 0 1, sw_push (.int 2), sw_push (.int 5), sw_cs m_X13_isIn 3, sw_iz 0 7 [false, false, false, false], sw_ld 2 0, sw_ld 0 2, sw_cv 12 m_X13_isFree 1, sw_iz 0 7 [false, false, false, false], sw_ld 2 0, sw_ld 0 3, sw_cv 12 m_X13_isFree 1, sw_iz 0 7 [false, false, false, false], sw_ld 0 2, sw_ld 0 3, sw_ic 0 7 [false, false, false, false], sw_push (.int 1), sw_goto 8 [false, false, false, false]]
def bb_X13_isNode_7 : List sw_I := [sw_push (.int 0), sw_goto 8 [false, false, false, false]]
def bb_X13_isNode_8 : List sw_I := [sw_rv 1]
def b_X13_isNode : sw_B := fun n => match n with
  | 0 => bb_X13_isNode_0
  | 1 => bb_X13_isNode_1
  | 2 => bb_X13_isNode_2
  | 3 => bb_X13_isNode_3
  | 4 => bb_X13_isNode_4
  | 5 => bb_X13_isNode_5
  | 6 => bb_X13_isNode_6
  | 7 => bb_X13_isNode_7
  | 8 => bb_X13_isNode_8
  | _ => []
/-! SpillslotWorksModel.isFree(I)Z -/
def bb_X13_isFree_0 : List sw_I := [sw_ld 0 1, sw_push (.int 0), sw_ld 2 0, sw_gf 12 1, sw_gf 13 0, sw_cv 24 m_J2_size 0, sw_push (.int 1), sw_ii (fun x y => x - y), sw_cs m_X13_isIn 3, sw_iz 0 1 [false, false], sw_ld 2 0, sw_gf 12 1, sw_ld 0 1, sw_cv 13 m_X14_of 1, sw_gf 16 3, sw_iz 1 1 [false, false], sw_push (.int 1), sw_goto 2 [false, false]]
def bb_X13_isFree_1 : List sw_I := [sw_push (.int 0), sw_goto 2 [false, false]]
def bb_X13_isFree_2 : List sw_I := [sw_rv 1]
def b_X13_isFree : sw_B := fun n => match n with
  | 0 => bb_X13_isFree_0
  | 1 => bb_X13_isFree_1
  | 2 => bb_X13_isFree_2
  | _ => []
/-! SpillslotWorksModel.statement(III)I -/
def bb_X13_statement_0 : List sw_I := [sw_ld 2 0, sw_ld 0 1, sw_cs m_X13_isNoBlock 1, sw_iz 1 1 [true, true, true, true], sw_ld 0 2, sw_cs m_X13_isNoVariable 1, sw_iz 1 1 [true, true, true, true], sw_ld 2 0, sw_ld 0 3, sw_cv 12 m_X13_isNoNode 1, sw_iz 0 2 [true, true, true, true], sw_goto 1 [true, true, true, true]]
def bb_X13_statement_1 : List sw_I := [sw_push (.int 1), sw_goto 3 [true, true, true, true]]
def bb_X13_statement_2 : List sw_I := [sw_push (.int 0), sw_goto 3 [true, true, true, true]]
def bb_X13_statement_3 : List sw_I := [sw_push (.int 1), sw_cv 12 m_X13_start 2, sw_iz 1 6 [false, false, false, false], sw_ld 2 0, sw_ld 2 0, sw_gf 12 1, sw_ld 0 3, sw_cv 13 m_X14_of 1, sw_gf 16 3, sw_push (.int 2), sw_cv 12 m_X13_refuse 2, sw_iz 1 6 [false, false, false, false], sw_ld 2 0, sw_ld 2 0, sw_cv 12 m_X13_statements 0, sw_push (.int 24), sw_ic 1 4 [true, true, true, true], sw_push (.int 1), sw_goto 5 [true, true, true, true]]
def bb_X13_statement_4 : List sw_I := [sw_push (.int 0), sw_goto 5 [true, true, true, true]]
def bb_X13_statement_5 : List sw_I := [sw_push (.int 3), sw_cv 12 m_X13_refuse 2, sw_iz 0 7 [true, true, true, true], sw_goto 6 [false, false, false, false]]
def bb_X13_statement_6 : List sw_I := [sw_push (.int 0), sw_rv 0]
def bb_X13_statement_7 : List sw_I := [sw_ld 2 0, sw_gf 12 1, sw_gf 13 1, sw_ld 0 1, sw_cv 24 m_J2_get 1, sw_ct [24], sw_push (.int 2), sw_na 64, sw_dup, sw_push (.int 0), sw_ld 0 2, sw_ast 64, sw_dup, sw_push (.int 1), sw_ld 0 3, sw_ast 64, sw_cv 24 m_J2_add 1, sw_pop, sw_ld 2 0, sw_gf 12 1, sw_ld 0 3, sw_cv 13 m_X14_of 1, sw_push (.int 1), sw_pf 16 3 1, sw_ld 2 0, sw_gf 12 1, sw_gf 13 1, sw_ld 0 1, sw_cv 24 m_J2_get 1, sw_ct [24], sw_cv 24 m_J2_size 0, sw_rv 0]
def b_X13_statement : sw_B := fun n => match n with
  | 0 => bb_X13_statement_0
  | 1 => bb_X13_statement_1
  | 2 => bb_X13_statement_2
  | 3 => bb_X13_statement_3
  | 4 => bb_X13_statement_4
  | 5 => bb_X13_statement_5
  | 6 => bb_X13_statement_6
  | 7 => bb_X13_statement_7
  | _ => []
/-! SpillslotWorksModel.isNoBlock(I)Z -/
def bb_X13_isNoBlock_0 : List sw_I := [sw_ld 0 0, sw_push (.int 0), sw_push (.int 3), sw_cs m_X13_isIn 3, sw_iz 1 1 [false], sw_push (.int 1), sw_goto 2 [false]]
def bb_X13_isNoBlock_1 : List sw_I := [sw_push (.int 0), sw_goto 2 [false]]
def bb_X13_isNoBlock_2 : List sw_I := [sw_rv 1]
def b_X13_isNoBlock : sw_B := fun n => match n with
  | 0 => bb_X13_isNoBlock_0
  | 1 => bb_X13_isNoBlock_1
  | 2 => bb_X13_isNoBlock_2
  | _ => []
/-! SpillslotWorksModel.isNoVariable(I)Z -/
def bb_X13_isNoVariable_0 : List sw_I := [sw_ld 0 0, sw_push (.int 0), sw_push (.int 7), sw_cs m_X13_isIn 3, sw_iz 1 1 [false], sw_push (.int 1), sw_goto 2 [false]]
def bb_X13_isNoVariable_1 : List sw_I := [sw_push (.int 0), sw_goto 2 [false]]
def bb_X13_isNoVariable_2 : List sw_I := [sw_rv 1]
def b_X13_isNoVariable : sw_B := fun n => match n with
  | 0 => bb_X13_isNoVariable_0
  | 1 => bb_X13_isNoVariable_1
  | 2 => bb_X13_isNoVariable_2
  | _ => []
/-! SpillslotWorksModel.isNoNode(I)Z -/
def bb_X13_isNoNode_0 : List sw_I := [sw_ld 0 1, sw_push (.int 0), sw_ld 2 0, sw_gf 12 1, sw_gf 13 0, sw_cv 24 m_J2_size 0, sw_push (.int 1), sw_ii (fun x y => x - y), sw_cs m_X13_isIn 3, sw_iz 1 1 [false, false], sw_push (.int 1), sw_goto 2 [false, false]]
def bb_X13_isNoNode_1 : List sw_I := [sw_push (.int 0), sw_goto 2 [false, false]]
def bb_X13_isNoNode_2 : List sw_I := [sw_rv 1]
def b_X13_isNoNode : sw_B := fun n => match n with
  | 0 => bb_X13_isNoNode_0
  | 1 => bb_X13_isNoNode_1
  | 2 => bb_X13_isNoNode_2
  | _ => []
/-! SpillslotWorksModel.statements()I -/
def bb_X13_statements_0 : List sw_I := [sw_push (.int 0), sw_sti 1, sw_ld 2 0, sw_gf 12 1, sw_gf 13 1, sw_cv 24 m_J2_iterator 0, sw_sta 2, sw_goto 1 [false, true, true, false]]
def bb_X13_statements_1 : List sw_I := [sw_ld 2 2, sw_cv 25 m_J23_hasNext 0, sw_iz 0 2 [false, true, false, false], sw_ld 2 2, sw_cv 25 m_J23_next 0, sw_ct [24], sw_sta 3, sw_ld 0 1, sw_ld 2 3, sw_cv 24 m_J2_size 0, sw_ii (fun x y => x + y), sw_sti 1, sw_goto 1 [false, true, true, false]]
def bb_X13_statements_2 : List sw_I := [sw_ld 0 1, sw_rv 0]
def b_X13_statements : sw_B := fun n => match n with
  | 0 => bb_X13_statements_0
  | 1 => bb_X13_statements_1
  | 2 => bb_X13_statements_2
  | _ => []
/-! SpillslotWorksModel.take(I)I -/
def bb_X13_take_0 : List sw_I := [sw_ld 2 0, sw_ld 0 1, sw_cs m_X13_isNoBlock 1, sw_push (.int 1), sw_cv 12 m_X13_start 2, sw_iz 1 1 [false, false, false, false], sw_ld 2 0, sw_ld 2 0, sw_gf 12 1, sw_gf 13 1, sw_ld 0 1, sw_cv 24 m_J2_get 1, sw_ct [24], sw_cv 24 m_J2_isEmpty 0, sw_push (.int 2), sw_cv 12 m_X13_refuse 2, sw_iz 0 2 [true, true, false, false], sw_goto 1 [false, false, false, false]]
def bb_X13_take_1 : List sw_I := [sw_push (.int 0), sw_rv 0]
def bb_X13_take_2 : List sw_I := [sw_ld 2 0, sw_gf 12 1, sw_gf 13 1, sw_ld 0 1, sw_cv 24 m_J2_get 1, sw_ct [24], sw_sta 2, sw_ld 2 2, sw_ld 2 2, sw_cv 24 m_J2_size 0, sw_push (.int 1), sw_ii (fun x y => x - y), sw_cv 24 m_J2_remove 1, sw_ct [64], sw_push (.int 1), sw_ald 64, sw_sti 3, sw_ld 2 0, sw_gf 12 1, sw_ld 0 3, sw_cv 13 m_X14_of 1, sw_push (.int 0), sw_pf 16 3 1, sw_ld 0 3, sw_rv 0]
def b_X13_take : sw_B := fun n => match n with
  | 0 => bb_X13_take_0
  | 1 => bb_X13_take_1
  | 2 => bb_X13_take_2
  | _ => []
/-! SpillslotWorksModel.times(II)I -/
def bb_X13_times_0 : List sw_I := [sw_ld 2 0, sw_ld 0 1, sw_cs m_X13_isNoBlock 1, sw_push (.int 1), sw_cv 12 m_X13_start 2, sw_iz 1 3 [false, false, false, false], sw_ld 2 0, sw_ld 0 2, sw_push (.int 1), sw_push (.int 9), sw_cs m_X13_isIn 3, sw_iz 1 1 [true, true, true, false], sw_push (.int 1), sw_goto 2 [true, true, true, false]]
def bb_X13_times_1 : List sw_I := [sw_push (.int 0), sw_goto 2 [true, true, true, false]]
def bb_X13_times_2 : List sw_I := [sw_push (.int 2), sw_cv 12 m_X13_refuse 2, sw_iz 0 4 [true, true, true, false], sw_goto 3 [false, false, false, false]]
def bb_X13_times_3 : List sw_I := [sw_push (.int 0), sw_rv 0]
def bb_X13_times_4 : List sw_I := [sw_ld 2 0, sw_gf 12 1, sw_gf 13 2, sw_ld 0 1, sw_ald 64, sw_sti 3, sw_ld 2 0, sw_gf 12 1, sw_gf 13 2, sw_ld 0 1, sw_ld 0 2, sw_ast 64, sw_ld 0 3, sw_rv 0]
def b_X13_times : sw_B := fun n => match n with
  | 0 => bb_X13_times_0
  | 1 => bb_X13_times_1
  | 2 => bb_X13_times_2
  | 3 => bb_X13_times_3
  | 4 => bb_X13_times_4
  | _ => []
/-! SpillslotWorksModel.out(I)I -/
def bb_X13_out_0 : List sw_I := [sw_ld 2 0, sw_ld 0 1, sw_push (.int 0), sw_push (.int 255), sw_cs m_X13_isIn 3, sw_iz 1 1 [true, true, false], sw_push (.int 1), sw_goto 2 [true, true, false]]
def bb_X13_out_1 : List sw_I := [sw_push (.int 0), sw_goto 2 [true, true, false]]
def bb_X13_out_2 : List sw_I := [sw_push (.int 1), sw_cv 12 m_X13_start 2, sw_iz 0 3 [true, true, false], sw_push (.int 0), sw_rv 0]
def bb_X13_out_3 : List sw_I := [sw_ld 2 0, sw_gf 12 1, sw_gf 13 4, sw_sti 2, sw_ld 2 0, sw_gf 12 1, sw_ld 0 1, sw_pf 13 4 0, sw_ld 0 2, sw_rv 0]
def b_X13_out : sw_B := fun n => match n with
  | 0 => bb_X13_out_0
  | 1 => bb_X13_out_1
  | 2 => bb_X13_out_2
  | 3 => bb_X13_out_3
  | _ => []
/-! SpillslotWorksModel.meant(I)I -/
def bb_X13_meant_0 : List sw_I := [sw_ld 2 0, sw_ld 0 1, sw_cs m_X13_isNoVariable 1, sw_push (.int 1), sw_cv 12 m_X13_start 2, sw_iz 0 1 [true, true], sw_push (.int 0), sw_goto 2 [false, false]]
def bb_X13_meant_1 : List sw_I := [sw_ld 2 0, sw_gf 12 1, sw_cv 13 m_X14_meant 0, sw_ld 0 1, sw_ald 64, sw_goto 2 [false, false]]
def bb_X13_meant_2 : List sw_I := [sw_rv 0]
def b_X13_meant : sw_B := fun n => match n with
  | 0 => bb_X13_meant_0
  | 1 => bb_X13_meant_1
  | 2 => bb_X13_meant_2
  | _ => []
/-! SpillslotWorksModel.chosen(II)I -/
def bb_X13_chosen_0 : List sw_I := [sw_ld 2 0, sw_cv 12 m_X13_plan 0, sw_sta 3, sw_ld 2 0, sw_ld 0 1, sw_push (.int 0), sw_ld 2 3, sw_gf 18 2, sw_cv 24 m_J2_size 0, sw_push (.int 1), sw_ii (fun x y => x - y), sw_cs m_X13_isIn 3, sw_iz 1 1 [true, true, true, true], sw_push (.int 1), sw_goto 2 [true, true, true, true]]
def bb_X13_chosen_1 : List sw_I := [sw_push (.int 0), sw_goto 2 [true, true, true, true]]
def bb_X13_chosen_2 : List sw_I := [sw_push (.int 1), sw_cv 12 m_X13_start 2, sw_iz 1 5 [false, false, false, false], sw_ld 2 0, sw_ld 0 2, sw_push (.int 0), sw_push (.int 7), sw_cs m_X13_isIn 3, sw_iz 1 3 [false, true, true, true], sw_push (.int 1), sw_goto 4 [false, true, true, true]]
def bb_X13_chosen_3 : List sw_I := [sw_push (.int 0), sw_goto 4 [false, true, true, true]]
def bb_X13_chosen_4 : List sw_I := [sw_push (.int 2), sw_cv 12 m_X13_refuse 2, sw_iz 0 6 [false, true, true, true], sw_goto 5 [false, false, false, false]]
def bb_X13_chosen_5 : List sw_I := [sw_push (.int 0), sw_goto 7 [false, false, false, false]]
def bb_X13_chosen_6 : List sw_I := [sw_ld 2 3, sw_gf 18 2, sw_ld 0 1, sw_cv 24 m_J2_get 1, sw_ct [20], sw_ld 0 2, sw_cs m_X13_told 2, sw_goto 7 [false, false, false, false]]
def bb_X13_chosen_7 : List sw_I := [sw_rv 0]
def b_X13_chosen : sw_B := fun n => match n with
  | 0 => bb_X13_chosen_0
  | 1 => bb_X13_chosen_1
  | 2 => bb_X13_chosen_2
  | 3 => bb_X13_chosen_3
  | 4 => bb_X13_chosen_4
  | 5 => bb_X13_chosen_5
  | 6 => bb_X13_chosen_6
  | 7 => bb_X13_chosen_7
  | _ => []
/-! SpillslotWorksModel.plan()LSpillslotWorksModel$Plan; -/
def bb_X13_plan_0 : List sw_I := [sw_ld 2 0, sw_ld 2 0, sw_gf 12 2, sw_push (.int 1), sw_cv 12 m_X13_plan_2 2, sw_rv 2]
def b_X13_plan : sw_B := fun n => match n with
  | 0 => bb_X13_plan_0
  | _ => []
/-! SpillslotWorksModel.plan(LSpillslotWorksModel$Machine;Z)LSpillslotWorksModel$Plan; -/
def bb_X13_plan_2_0 : List sw_I := [sw_nw 18 [.null, .null, .null, .null, .null, .null, .int 0, .null, .int 0, .int 0, .int 0, .null, .null, .null], sw_dup, sw_ld 2 0, sw_gf 12 1, sw_ld 2 1, sw_ld 0 2, sw_ci m_X19_init 3, sw_rv 2]
def b_X13_plan_2 : sw_B := fun n => match n with
  | 0 => bb_X13_plan_2_0
  | _ => []
/-! SpillslotWorksModel.has(II)Z -/
def bb_X13_has_0 : List sw_I := [sw_ld 0 0, sw_ld 0 1, sw_ii (fun x y => x >>> (y &&& 31)), sw_push (.int 1), sw_ii (fun x y => x &&& y), sw_push (.int 1), sw_ic 1 1 [false, false], sw_push (.int 1), sw_goto 2 [false, false]]
def bb_X13_has_1 : List sw_I := [sw_push (.int 0), sw_goto 2 [false, false]]
def bb_X13_has_2 : List sw_I := [sw_rv 1]
def b_X13_has : sw_B := fun n => match n with
  | 0 => bb_X13_has_0
  | 1 => bb_X13_has_1
  | 2 => bb_X13_has_2
  | _ => []
/-! SpillslotWorksModel.told(LSpillslotWorksModel$Op;I)I -/
def bb_X13_told_0 : List sw_I := [sw_push (.int 3), sw_na 64, sw_dup, sw_push (.int 0), sw_push (.int (-1)), sw_ast 64, sw_dup, sw_push (.int 1), sw_push (.int (-1)), sw_ast 64, sw_dup, sw_push (.int 2), sw_push (.int (-1)), sw_ast 64, sw_sta 2, sw_ld 2 0, sw_gf 20 2, sw_push (.int 0), sw_ld 2 2, sw_push (.int 0), sw_ld 2 0, sw_gf 20 2, sw_al, sw_cp 64, sw_push (.int 8), sw_na 64, sw_dup, sw_push (.int 0), sw_ld 2 0, sw_gf 20 0, sw_ast 64, sw_dup, sw_push (.int 1), sw_ld 2 0, sw_gf 20 1, sw_ast 64, sw_dup, sw_push (.int 2), sw_ld 2 2, sw_push (.int 0), sw_ald 64, sw_ast 64, sw_dup, sw_push (.int 3), sw_ld 2 2, sw_push (.int 1), sw_ald 64, sw_ast 64, sw_dup, sw_push (.int 4), sw_ld 2 2, sw_push (.int 2), sw_ald 64, sw_ast 64, sw_dup, sw_push (.int 5), sw_ld 2 0, sw_gf 20 3, sw_ast 64, sw_dup, sw_push (.int 6), sw_ld 2 0, sw_gf 20 4, sw_ast 64, sw_dup, sw_push (.int 7), sw_ld 2 0, sw_gf 20 5, sw_ast 64, sw_sta 3, sw_ld 2 3, sw_ld 0 1, sw_ald 64, sw_rv 0]
def b_X13_told : sw_B := fun n => match n with
  | 0 => bb_X13_told_0
  | _ => []
/-! SpillslotWorksModel.ofValue(II)I -/
def bb_X13_ofValue_0 : List sw_I := [sw_ld 2 0, sw_cv 12 m_X13_plan 0, sw_sta 3, sw_ld 2 0, sw_ld 0 1, sw_push (.int 0), sw_ld 2 3, sw_gf 18 3, sw_al, sw_push (.int 1), sw_ii (fun x y => x - y), sw_cs m_X13_isIn 3, sw_iz 0 1 [true, true, true, true], sw_ld 2 3, sw_gf 18 3, sw_ld 0 1, sw_ald 68, sw_cv 21 m_X22_isIn 0, sw_iz 1 2 [true, true, true, true], sw_goto 1 [true, true, true, true]]
def bb_X13_ofValue_1 : List sw_I := [sw_push (.int 1), sw_goto 3 [true, true, true, true]]
def bb_X13_ofValue_2 : List sw_I := [sw_push (.int 0), sw_goto 3 [true, true, true, true]]
def bb_X13_ofValue_3 : List sw_I := [sw_push (.int 1), sw_cv 12 m_X13_start 2, sw_iz 1 6 [false, false, false, false], sw_ld 2 0, sw_ld 0 2, sw_push (.int 0), sw_push (.int 7), sw_cs m_X13_isIn 3, sw_iz 1 4 [false, true, true, true], sw_push (.int 1), sw_goto 5 [false, true, true, true]]
def bb_X13_ofValue_4 : List sw_I := [sw_push (.int 0), sw_goto 5 [false, true, true, true]]
def bb_X13_ofValue_5 : List sw_I := [sw_push (.int 2), sw_cv 12 m_X13_refuse 2, sw_iz 0 7 [false, true, true, true], sw_goto 6 [false, false, false, false]]
def bb_X13_ofValue_6 : List sw_I := [sw_push (.int 0), sw_goto 8 [false, false, false, false]]
def bb_X13_ofValue_7 : List sw_I := [sw_ld 2 3, sw_gf 18 3, sw_ld 0 1, sw_ald 68, sw_ld 0 2, sw_cs m_X13_told_2 2, sw_goto 8 [false, false, false, false]]
def bb_X13_ofValue_8 : List sw_I := [sw_rv 0]
def b_X13_ofValue : sw_B := fun n => match n with
  | 0 => bb_X13_ofValue_0
  | 1 => bb_X13_ofValue_1
  | 2 => bb_X13_ofValue_2
  | 3 => bb_X13_ofValue_3
  | 4 => bb_X13_ofValue_4
  | 5 => bb_X13_ofValue_5
  | 6 => bb_X13_ofValue_6
  | 7 => bb_X13_ofValue_7
  | 8 => bb_X13_ofValue_8
  | _ => []
/-! SpillslotWorksModel.told(LSpillslotWorksModel$Life;I)I -/
def bb_X13_told_2_0 : List sw_I := [sw_push (.int 8), sw_na 64, sw_dup, sw_push (.int 0), sw_ld 2 0, sw_gf 21 1, sw_ast 64, sw_dup, sw_push (.int 1), sw_ld 2 0, sw_gf 21 2, sw_ast 64, sw_dup, sw_push (.int 2), sw_ld 2 0, sw_gf 21 4, sw_ast 64, sw_dup, sw_push (.int 3), sw_ld 2 0, sw_gf 21 6, sw_ast 64, sw_dup, sw_push (.int 4), sw_ld 2 0, sw_gf 21 7, sw_ast 64, sw_dup, sw_push (.int 5), sw_ld 2 0, sw_cv 21 m_X22_isSpilled 0, sw_iz 0 1 [true, true, false], sw_ld 2 0, sw_gf 21 8, sw_iz 0 1 [true, true, false], sw_push (.int 1), sw_goto 2 [true, true, false]]
def bb_X13_told_2_1 : List sw_I := [sw_push (.int 0), sw_goto 2 [true, true, false]]
def bb_X13_told_2_2 : List sw_I := [sw_ast 64, sw_dup, sw_push (.int 6), sw_ld 2 0, sw_gf 21 5, sw_ast 64, sw_dup, sw_push (.int 7), sw_ld 2 0, sw_gf 21 3, sw_ast 64, sw_sta 2, sw_ld 2 2, sw_ld 0 1, sw_ald 64, sw_rv 0]
def b_X13_told_2 : sw_B := fun n => match n with
  | 0 => bb_X13_told_2_0
  | 1 => bb_X13_told_2_1
  | 2 => bb_X13_told_2_2
  | _ => []
/-! SpillslotWorksModel.mapAt(II)I -/
def bb_X13_mapAt_0 : List sw_I := [sw_ld 2 0, sw_cv 12 m_X13_plan 0, sw_sta 3, sw_ld 2 0, sw_ld 0 1, sw_push (.int 0), sw_ld 2 3, sw_gf 18 5, sw_cv 24 m_J2_size 0, sw_push (.int 1), sw_ii (fun x y => x - y), sw_cs m_X13_isIn 3, sw_iz 1 1 [true, true, true, true], sw_push (.int 1), sw_goto 2 [true, true, true, true]]
def bb_X13_mapAt_1 : List sw_I := [sw_push (.int 0), sw_goto 2 [true, true, true, true]]
def bb_X13_mapAt_2 : List sw_I := [sw_push (.int 1), sw_cv 12 m_X13_start 2, sw_iz 1 5 [false, false, false, false], sw_ld 2 0, sw_ld 0 2, sw_push (.int 0), sw_push (.int 3), sw_cs m_X13_isIn 3, sw_iz 1 3 [false, true, true, true], sw_push (.int 1), sw_goto 4 [false, true, true, true]]
def bb_X13_mapAt_3 : List sw_I := [sw_push (.int 0), sw_goto 4 [false, true, true, true]]
def bb_X13_mapAt_4 : List sw_I := [sw_push (.int 2), sw_cv 12 m_X13_refuse 2, sw_iz 0 6 [false, true, true, true], sw_goto 5 [false, false, false, false]]
def bb_X13_mapAt_5 : List sw_I := [sw_push (.int 0), sw_goto 7 [false, false, false, false]]
def bb_X13_mapAt_6 : List sw_I := [sw_ld 2 3, sw_ld 0 1, sw_ld 0 2, sw_cs m_X13_mapOf 3, sw_goto 7 [false, false, false, false]]
def bb_X13_mapAt_7 : List sw_I := [sw_rv 0]
def b_X13_mapAt : sw_B := fun n => match n with
  | 0 => bb_X13_mapAt_0
  | 1 => bb_X13_mapAt_1
  | 2 => bb_X13_mapAt_2
  | 3 => bb_X13_mapAt_3
  | 4 => bb_X13_mapAt_4
  | 5 => bb_X13_mapAt_5
  | 6 => bb_X13_mapAt_6
  | 7 => bb_X13_mapAt_7
  | _ => []
/-! SpillslotWorksModel.mapOf(LSpillslotWorksModel$Plan;II)I -/
def bb_X13_mapOf_0 : List sw_I := [sw_ld 2 0, sw_gf 18 5, sw_ld 0 1, sw_cv 24 m_J2_get 1, sw_ct [41], sw_cv 41 m_J19_intValue 0, sw_sti 3, sw_ld 0 2, sw_iz 1 1 [true, false, true, true, false, false, false], sw_ld 0 3, sw_rv 0]
def bb_X13_mapOf_1 : List sw_I := [sw_push (.int 0), sw_sti 4, sw_ld 2 0, sw_gf 18 4, sw_cv 24 m_J2_iterator 0, sw_sta 5, sw_goto 2 [false, false, true, true, true, true, false]]
def bb_X13_mapOf_2 : List sw_I := [sw_ld 2 5, sw_cv 25 m_J23_hasNext 0, sw_iz 0 7 [false, false, false, false, true, false, false], sw_ld 2 5, sw_cv 25 m_J23_next 0, sw_ct [21], sw_sta 6, sw_ld 2 6, sw_ld 0 3, sw_cv 21 m_X22_goesOver 1, sw_iz 1 3 [false, false, true, true, true, true, true], sw_goto 2 [false, false, true, true, true, true, false]]
def bb_X13_mapOf_3 : List sw_I := [sw_ld 0 2, sw_push (.int 1), sw_ic 1 4 [false, false, true, true, true, true, true], sw_ld 2 6, sw_gf 21 6, sw_push (.int (-1)), sw_ic 0 4 [false, false, true, true, true, true, true], sw_ld 0 4, sw_push (.int 1), sw_ld 2 6, sw_gf 21 6, sw_ii (fun x y => x <<< (y &&& 31)), sw_ii (fun x y => x ||| y), sw_sti 4, sw_goto 4 [false, false, true, true, true, true, true]]
def bb_X13_mapOf_4 : List sw_I := [sw_ld 0 2, sw_push (.int 2), sw_ic 1 5 [false, false, true, true, true, true, true], sw_ld 2 6, sw_gf 21 7, sw_push (.int (-1)), sw_ic 0 5 [false, false, true, true, true, true, true], sw_ld 0 4, sw_push (.int 1), sw_ld 2 6, sw_gf 21 7, sw_ii (fun x y => x <<< (y &&& 31)), sw_ii (fun x y => x ||| y), sw_sti 4, sw_goto 5 [false, false, true, true, true, true, true]]
def bb_X13_mapOf_5 : List sw_I := [sw_ld 0 2, sw_push (.int 3), sw_ic 1 6 [false, false, true, true, true, true, false], sw_ld 2 6, sw_cv 21 m_X22_isSpilled 0, sw_iz 0 6 [false, false, true, true, true, true, false], sw_ld 2 6, sw_gf 21 8, sw_iz 0 6 [false, false, true, true, true, true, false], sw_inc 4 1, sw_goto 6 [false, false, true, true, true, true, false]]
def bb_X13_mapOf_6 : List sw_I := [sw_goto 2 [false, false, true, true, true, true, false]]
def bb_X13_mapOf_7 : List sw_I := [sw_ld 0 4, sw_rv 0]
def b_X13_mapOf : sw_B := fun n => match n with
  | 0 => bb_X13_mapOf_0
  | 1 => bb_X13_mapOf_1
  | 2 => bb_X13_mapOf_2
  | 3 => bb_X13_mapOf_3
  | 4 => bb_X13_mapOf_4
  | 5 => bb_X13_mapOf_5
  | 6 => bb_X13_mapOf_6
  | 7 => bb_X13_mapOf_7
  | _ => []
/-! SpillslotWorksModel.cost(I)I -/
def bb_X13_cost_0 : List sw_I := [sw_ld 2 0, sw_ld 2 0, sw_ld 0 1, sw_cv 12 m_X13_isNoNode 1, sw_push (.int 1), sw_cv 12 m_X13_start 2, sw_iz 0 1 [true, true], sw_push (.int 0), sw_goto 2 [false, false]]
def bb_X13_cost_1 : List sw_I := [sw_nw 19 [.null, .null, .null, .int 0, .null, .int 0, .int 0], sw_dup, sw_ld 2 0, sw_gf 12 1, sw_ld 2 0, sw_gf 12 2, sw_push (.int 1), sw_ci m_X20_init 3, sw_ld 0 1, sw_cv 19 m_X20_cost 1, sw_goto 2 [false, false]]
def bb_X13_cost_2 : List sw_I := [sw_rv 0]
def b_X13_cost : sw_B := fun n => match n with
  | 0 => bb_X13_cost_0
  | 1 => bb_X13_cost_1
  | 2 => bb_X13_cost_2
  | _ => []
/-! SpillslotWorksModel.code(II)I -/
def bb_X13_code_0 : List sw_I := [sw_ld 2 0, sw_cv 12 m_X13_plan 0, sw_sta 3, sw_ld 2 0, sw_ld 0 1, sw_push (.int 0), sw_ld 2 3, sw_gf 18 7, sw_cv 24 m_J2_size 0, sw_push (.int 1), sw_ii (fun x y => x - y), sw_cs m_X13_isIn 3, sw_iz 1 1 [true, true, true, true], sw_push (.int 1), sw_goto 2 [true, true, true, true]]
def bb_X13_code_1 : List sw_I := [sw_push (.int 0), sw_goto 2 [true, true, true, true]]
def bb_X13_code_2 : List sw_I := [sw_push (.int 1), sw_cv 12 m_X13_start 2, sw_iz 1 5 [false, false, false, false], sw_ld 2 0, sw_ld 0 2, sw_push (.int 0), sw_push (.int 5), sw_cs m_X13_isIn 3, sw_iz 1 3 [false, true, true, true], sw_push (.int 1), sw_goto 4 [false, true, true, true]]
def bb_X13_code_3 : List sw_I := [sw_push (.int 0), sw_goto 4 [false, true, true, true]]
def bb_X13_code_4 : List sw_I := [sw_push (.int 2), sw_cv 12 m_X13_refuse 2, sw_iz 0 6 [false, true, true, true], sw_goto 5 [false, false, false, false]]
def bb_X13_code_5 : List sw_I := [sw_push (.int 0), sw_goto 7 [false, false, false, false]]
def bb_X13_code_6 : List sw_I := [sw_ld 2 3, sw_gf 18 7, sw_ld 0 1, sw_cv 24 m_J2_get 1, sw_ct [64], sw_ld 0 2, sw_ald 64, sw_goto 7 [false, false, false, false]]
def bb_X13_code_7 : List sw_I := [sw_rv 0]
def b_X13_code : sw_B := fun n => match n with
  | 0 => bb_X13_code_0
  | 1 => bb_X13_code_1
  | 2 => bb_X13_code_2
  | 3 => bb_X13_code_3
  | 4 => bb_X13_code_4
  | 5 => bb_X13_code_5
  | 6 => bb_X13_code_6
  | 7 => bb_X13_code_7
  | _ => []
/-! SpillslotWorksModel.begins(I)I -/
def bb_X13_begins_0 : List sw_I := [sw_ld 2 0, sw_cv 12 m_X13_plan 0, sw_sta 2, sw_ld 2 0, sw_ld 0 1, sw_push (.int 0), sw_ld 2 2, sw_gf 18 7, sw_cv 24 m_J2_size 0, sw_push (.int 1), sw_ii (fun x y => x - y), sw_cs m_X13_isIn 3, sw_iz 1 1 [false, true, true], sw_push (.int 1), sw_goto 2 [false, true, true]]
def bb_X13_begins_1 : List sw_I := [sw_push (.int 0), sw_goto 2 [false, true, true]]
def bb_X13_begins_2 : List sw_I := [sw_push (.int 1), sw_cv 12 m_X13_start 2, sw_iz 0 3 [false, true, true], sw_push (.int 0), sw_goto 4 [false, false, false]]
def bb_X13_begins_3 : List sw_I := [sw_ld 2 2, sw_gf 18 13, sw_ld 0 1, sw_ald 64, sw_goto 4 [false, false, false]]
def bb_X13_begins_4 : List sw_I := [sw_rv 0]
def b_X13_begins : sw_B := fun n => match n with
  | 0 => bb_X13_begins_0
  | 1 => bb_X13_begins_1
  | 2 => bb_X13_begins_2
  | 3 => bb_X13_begins_3
  | 4 => bb_X13_begins_4
  | _ => []
/-! SpillslotWorksModel.answer(I)I -/
def bb_X13_answer_0 : List sw_I := [sw_ld 2 0, sw_ld 0 1, sw_cs m_X13_isNoVariable 1, sw_iz 1 1 [true, true], sw_ld 2 0, sw_gf 12 1, sw_gf 13 4, sw_ld 0 1, sw_cs m_X13_has 2, sw_iz 1 2 [true, true], sw_goto 1 [true, true]]
def bb_X13_answer_1 : List sw_I := [sw_push (.int 1), sw_goto 3 [true, true]]
def bb_X13_answer_2 : List sw_I := [sw_push (.int 0), sw_goto 3 [true, true]]
def bb_X13_answer_3 : List sw_I := [sw_push (.int 1), sw_cv 12 m_X13_start 2, sw_iz 0 4 [true, true], sw_push (.int 0), sw_goto 5 [false, false]]
def bb_X13_answer_4 : List sw_I := [sw_ld 2 0, sw_cv 12 m_X13_plan 0, sw_ld 0 1, sw_cv 18 m_X19_answer 1, sw_goto 5 [false, false]]
def bb_X13_answer_5 : List sw_I := [sw_rv 0]
def b_X13_answer : sw_B := fun n => match n with
  | 0 => bb_X13_answer_0
  | 1 => bb_X13_answer_1
  | 2 => bb_X13_answer_2
  | 3 => bb_X13_answer_3
  | 4 => bb_X13_answer_4
  | 5 => bb_X13_answer_5
  | _ => []
/-! SpillslotWorksModel.many(I)I -/
def bb_X13_many_0 : List sw_I := [sw_ld 2 0, sw_ld 0 1, sw_push (.int 0), sw_push (.int 15), sw_cs m_X13_isIn 3, sw_iz 1 1 [true, true], sw_push (.int 1), sw_goto 2 [true, true]]
def bb_X13_many_1 : List sw_I := [sw_push (.int 0), sw_goto 2 [true, true]]
def bb_X13_many_2 : List sw_I := [sw_push (.int 1), sw_cv 12 m_X13_start 2, sw_iz 0 3 [true, true], sw_push (.int 0), sw_goto 4 [false, false]]
def bb_X13_many_3 : List sw_I := [sw_ld 2 0, sw_ld 2 0, sw_cv 12 m_X13_plan 0, sw_ld 0 1, sw_cv 12 m_X13_count 2, sw_goto 4 [false, false]]
def bb_X13_many_4 : List sw_I := [sw_rv 0]
def b_X13_many : sw_B := fun n => match n with
  | 0 => bb_X13_many_0
  | 1 => bb_X13_many_1
  | 2 => bb_X13_many_2
  | 3 => bb_X13_many_3
  | 4 => bb_X13_many_4
  | _ => []
/-! SpillslotWorksModel.count(LSpillslotWorksModel$Plan;I)I -/
def bb_X13_count_0 : List sw_I := [sw_ld 0 2, sw_iz 1 1 [true, true, true, false, false, false], sw_ld 2 0, sw_gf 12 1, sw_gf 13 0, sw_cv 24 m_J2_size 0, sw_rv 0]
def bb_X13_count_1 : List sw_I := [sw_ld 0 2, sw_push (.int 2), sw_ic 1 2 [true, true, true, false, false, false], sw_ld 2 0, sw_cv 12 m_X13_statements 0, sw_rv 0]
def bb_X13_count_2 : List sw_I := [sw_ld 0 2, sw_push (.int 2), sw_ic 5 3 [true, false, false, false, false, false], sw_ld 2 1, sw_ld 0 2, sw_cv 18 m_X19_told 1, sw_rv 0]
def bb_X13_count_3 : List sw_I := [sw_push (.int 0), sw_sti 3, sw_ld 2 0, sw_gf 12 1, sw_gf 13 0, sw_cv 24 m_J2_iterator 0, sw_sta 4, sw_goto 4 [false, false, false, true, true, false]]
def bb_X13_count_4 : List sw_I := [sw_ld 2 4, sw_cv 25 m_J23_hasNext 0, sw_iz 0 7 [false, false, false, true, false, false], sw_ld 2 4, sw_cv 25 m_J23_next 0, sw_ct [16], sw_sta 5, sw_ld 0 3, sw_ld 2 5, sw_gf 16 3, sw_iz 0 5 [false, false, false, false, true, false], sw_push (.int 0), sw_goto 6 [false, false, false, false, true, false]]
def bb_X13_count_5 : List sw_I := [sw_push (.int 1), sw_goto 6 [false, false, false, false, true, false]]
def bb_X13_count_6 : List sw_I := [sw_ii (fun x y => x + y), sw_sti 3, sw_goto 4 [false, false, false, true, true, false]]
def bb_X13_count_7 : List sw_I := [sw_ld 0 3, sw_rv 0]
def b_X13_count : sw_B := fun n => match n with
  | 0 => bb_X13_count_0
  | 1 => bb_X13_count_1
  | 2 => bb_X13_count_2
  | 3 => bb_X13_count_3
  | 4 => bb_X13_count_4
  | 5 => bb_X13_count_5
  | 6 => bb_X13_count_6
  | 7 => bb_X13_count_7
  | _ => []
/-! SpillslotWorksModel.meanStall()D -/
def bb_X13_meanStall_0 : List sw_I := [sw_ld 2 0, sw_push (.int 0), sw_pf 12 0 0, sw_ld 2 0, sw_cv 12 m_X13_plan 0, sw_sta 1, sw_ld 2 1, sw_gf 18 8, sw_iz 1 1 [false, true], sw_push (.double 0), sw_goto 2 [false, false]]
noncomputable def bb_X13_meanStall_1 : List sw_I := [sw_ld 2 1, sw_gf 18 10, sw_i2d, sw_ld 2 1, sw_gf 18 8, sw_i2d, sw_dd, sw_goto 2 [false, false]]
def bb_X13_meanStall_2 : List sw_I := [sw_rv 4]
noncomputable def b_X13_meanStall : sw_B := fun n => match n with
  | 0 => bb_X13_meanStall_0
  | 1 => bb_X13_meanStall_1
  | 2 => bb_X13_meanStall_2
  | _ => []
/-! SpillslotWorksModel.with(IIZI)I -/
def bb_X13_with_0 : List sw_I := [sw_ld 2 0, sw_ld 0 1, sw_ld 0 2, sw_cs m_X13_isNoMachine 2, sw_iz 1 1 [true, true, true, true, true], sw_ld 0 4, sw_push (.int 3), sw_push (.int 15), sw_cs m_X13_isIn 3, sw_iz 1 2 [true, true, true, true, true], sw_goto 1 [true, true, true, true, true]]
def bb_X13_with_1 : List sw_I := [sw_push (.int 1), sw_goto 3 [true, true, true, true, true]]
def bb_X13_with_2 : List sw_I := [sw_push (.int 0), sw_goto 3 [true, true, true, true, true]]
def bb_X13_with_3 : List sw_I := [sw_push (.int 1), sw_cv 12 m_X13_start 2, sw_iz 0 4 [true, true, true, true, true], sw_push (.int 0), sw_goto 5 [false, false, false, false, false]]
def bb_X13_with_4 : List sw_I := [sw_ld 2 0, sw_ld 0 1, sw_ld 0 2, sw_ld 0 3, sw_ld 0 4, sw_cv 12 m_X13_withNow 4, sw_goto 5 [false, false, false, false, false]]
def bb_X13_with_5 : List sw_I := [sw_rv 0]
def b_X13_with : sw_B := fun n => match n with
  | 0 => bb_X13_with_0
  | 1 => bb_X13_with_1
  | 2 => bb_X13_with_2
  | 3 => bb_X13_with_3
  | 4 => bb_X13_with_4
  | 5 => bb_X13_with_5
  | _ => []
/-! SpillslotWorksModel.withNow(IIZI)I -/
def bb_X13_withNow_0 : List sw_I := [sw_ld 2 0, sw_nw 14 [.int 0, .int 0, .int 0, .int 0, .int 0], sw_dup, sw_ld 0 1, sw_ld 0 2, sw_ld 2 0, sw_gf 12 2, sw_gf 14 2, sw_ld 2 0, sw_gf 12 2, sw_gf 14 3, sw_ld 0 3, sw_ci m_X15_init 5, sw_push (.int 1), sw_cv 12 m_X13_plan_2 2, sw_ld 0 4, sw_cv 18 m_X19_told 1, sw_rv 0]
def b_X13_withNow : sw_B := fun n => match n with
  | 0 => bb_X13_withNow_0
  | _ => []
/-! SpillslotWorksModel.cyclesWith(II)I -/
def bb_X13_cyclesWith_0 : List sw_I := [sw_ld 2 0, sw_ld 0 1, sw_cs m_X13_isNoKind 1, sw_push (.int 1), sw_cv 12 m_X13_start 2, sw_iz 1 1 [false, false, false, false, false], sw_ld 2 0, sw_ld 0 2, sw_cs m_X13_isNoLatency 1, sw_push (.int 2), sw_cv 12 m_X13_refuse 2, sw_iz 0 2 [true, true, true, false, false], sw_goto 1 [false, false, false, false, false]]
def bb_X13_cyclesWith_1 : List sw_I := [sw_push (.int 0), sw_rv 0]
def bb_X13_cyclesWith_2 : List sw_I := [sw_ld 2 0, sw_gf 12 1, sw_gf 13 3, sw_ld 0 1, sw_ald 64, sw_sti 3, sw_ld 2 0, sw_gf 12 1, sw_gf 13 3, sw_ld 0 1, sw_ld 0 2, sw_ast 64, sw_ld 2 0, sw_cv 12 m_X13_plan 0, sw_gf 18 9, sw_sti 4, sw_ld 2 0, sw_gf 12 1, sw_gf 13 3, sw_ld 0 1, sw_ld 0 3, sw_ast 64, sw_ld 0 4, sw_rv 0]
def b_X13_cyclesWith : sw_B := fun n => match n with
  | 0 => bb_X13_cyclesWith_0
  | 1 => bb_X13_cyclesWith_1
  | 2 => bb_X13_cyclesWith_2
  | _ => []
/-! SpillslotWorksModel.enough()I -/
def bb_X13_enough_0 : List sw_I := [sw_ld 2 0, sw_push (.int 0), sw_pf 12 0 0, sw_ld 2 0, sw_cv 12 m_X13_enoughNow 0, sw_rv 0]
def b_X13_enough : sw_B := fun n => match n with
  | 0 => bb_X13_enough_0
  | _ => []
/-! SpillslotWorksModel.enoughNow()I -/
def bb_X13_enoughNow_0 : List sw_I := [sw_push (.int 5), sw_sti 1, sw_goto 1 [true, true, false]]
def bb_X13_enoughNow_1 : List sw_I := [sw_ld 0 1, sw_push (.int 11), sw_ic 4 3 [false, false, false], sw_ld 2 0, sw_gf 12 2, sw_gf 14 1, sw_push (.int 1), sw_ld 0 1, sw_push (.int 3), sw_ii (fun x y => x - y), sw_ii (fun x y => x <<< (y &&& 31)), sw_push (.int 1), sw_ii (fun x y => x - y), sw_ii (fun x y => x &&& y), sw_sti 2, sw_ld 2 0, sw_ld 0 1, sw_ld 0 2, sw_ld 2 0, sw_gf 12 2, sw_gf 14 4, sw_push (.int 5), sw_cv 12 m_X13_withNow 4, sw_iz 1 2 [true, true, false], sw_ld 0 1, sw_rv 0]
def bb_X13_enoughNow_2 : List sw_I := [sw_inc 1 1, sw_goto 1 [true, true, false]]
def bb_X13_enoughNow_3 : List sw_I := [sw_push (.int (-1)), sw_rv 0]
def b_X13_enoughNow : sw_B := fun n => match n with
  | 0 => bb_X13_enoughNow_0
  | 1 => bb_X13_enoughNow_1
  | 2 => bb_X13_enoughNow_2
  | 3 => bb_X13_enoughNow_3
  | _ => []
/-! SpillslotWorksModel.unordered()I -/
def bb_X13_unordered_0 : List sw_I := [sw_ld 2 0, sw_push (.int 0), sw_pf 12 0 0, sw_ld 2 0, sw_cv 12 m_X13_unorderedNow 0, sw_rv 0]
def b_X13_unordered : sw_B := fun n => match n with
  | 0 => bb_X13_unordered_0
  | _ => []
/-! SpillslotWorksModel.unorderedNow()I -/
def bb_X13_unorderedNow_0 : List sw_I := [sw_ld 2 0, sw_ld 2 0, sw_gf 12 2, sw_push (.int 0), sw_cv 12 m_X13_plan_2 2, sw_gf 18 9, sw_ld 2 0, sw_cv 12 m_X13_plan 0, sw_gf 18 9, sw_ii (fun x y => x - y), sw_rv 0]
def b_X13_unorderedNow : sw_B := fun n => match n with
  | 0 => bb_X13_unorderedNow_0
  | _ => []
/-! SpillslotWorksModel.digest()J -/
def bb_X13_digest_0 : List sw_I := [sw_ld 2 0, sw_push (.int 0), sw_pf 12 0 0, sw_ld 2 0, sw_cv 12 m_X13_plan 0, sw_sta 1, sw_push (.long 58132), sw_stl 2, sw_push (.int 0), sw_sti 4, sw_goto 1 [true, true, true, false, true, false, false, false, false]]
def bb_X13_digest_1 : List sw_I := [sw_ld 0 4, sw_push (.int 16), sw_ic 3 2 [true, true, true, false, false, false, false, false, false], sw_ld 3 2, sw_ld 2 0, sw_ld 2 1, sw_ld 0 4, sw_cv 12 m_X13_count 2, sw_i2l, sw_cs m_X13_add 2, sw_stl 2, sw_inc 4 1, sw_goto 1 [true, true, true, false, true, false, false, false, false]]
def bb_X13_digest_2 : List sw_I := [sw_ld 2 0, sw_gf 12 1, sw_cv 13 m_X14_meant 0, sw_sta 4, sw_ld 2 4, sw_al, sw_sti 5, sw_push (.int 0), sw_sti 6, sw_goto 3 [true, true, true, false, true, true, true, false, false]]
def bb_X13_digest_3 : List sw_I := [sw_ld 0 6, sw_ld 0 5, sw_ic 3 4 [true, true, true, false, false, false, false, false, false], sw_ld 2 4, sw_ld 0 6, sw_ald 64, sw_sti 7, sw_ld 3 2, sw_ld 0 7, sw_i2l, sw_cs m_X13_add 2, sw_stl 2, sw_inc 6 1, sw_goto 3 [true, true, true, false, true, true, true, false, false]]
def bb_X13_digest_4 : List sw_I := [sw_push (.int 0), sw_sti 4, sw_goto 5 [true, true, true, false, true, false, false, false, false]]
def bb_X13_digest_5 : List sw_I := [sw_ld 0 4, sw_push (.int 8), sw_ic 3 7 [true, true, true, false, false, false, false, false, false], sw_ld 2 0, sw_gf 12 1, sw_gf 13 4, sw_ld 0 4, sw_cs m_X13_has 2, sw_iz 0 6 [true, true, true, false, true, false, false, false, false], sw_ld 3 2, sw_ld 2 1, sw_ld 0 4, sw_cv 18 m_X19_answer 1, sw_i2l, sw_cs m_X13_add 2, sw_stl 2, sw_goto 6 [true, true, true, false, true, false, false, false, false]]
def bb_X13_digest_6 : List sw_I := [sw_inc 4 1, sw_goto 5 [true, true, true, false, true, false, false, false, false]]
def bb_X13_digest_7 : List sw_I := [sw_ld 2 1, sw_gf 18 2, sw_cv 24 m_J2_iterator 0, sw_sta 4, sw_goto 8 [true, true, true, false, true, false, false, false, false]]
def bb_X13_digest_8 : List sw_I := [sw_ld 2 4, sw_cv 25 m_J23_hasNext 0, sw_iz 0 11 [true, true, true, false, false, false, false, false, false], sw_ld 2 4, sw_cv 25 m_J23_next 0, sw_ct [20], sw_sta 5, sw_push (.int 0), sw_sti 6, sw_goto 9 [true, true, true, false, true, true, true, false, false]]
def bb_X13_digest_9 : List sw_I := [sw_ld 0 6, sw_push (.int 8), sw_ic 3 10 [true, true, true, false, true, false, false, false, false], sw_ld 3 2, sw_ld 2 5, sw_ld 0 6, sw_cs m_X13_told 2, sw_i2l, sw_cs m_X13_add 2, sw_stl 2, sw_inc 6 1, sw_goto 9 [true, true, true, false, true, true, true, false, false]]
def bb_X13_digest_10 : List sw_I := [sw_goto 8 [true, true, true, false, true, false, false, false, false]]
def bb_X13_digest_11 : List sw_I := [sw_ld 2 1, sw_gf 18 3, sw_sta 4, sw_ld 2 4, sw_al, sw_sti 5, sw_push (.int 0), sw_sti 6, sw_goto 12 [true, true, true, false, true, true, true, false, false]]
def bb_X13_digest_12 : List sw_I := [sw_ld 0 6, sw_ld 0 5, sw_ic 3 16 [true, true, true, false, false, false, false, false, false], sw_ld 2 4, sw_ld 0 6, sw_ald 68, sw_sta 7, sw_ld 2 7, sw_cv 21 m_X22_isIn 0, sw_iz 1 13 [true, true, true, false, true, true, true, true, false], sw_goto 15 [true, true, true, false, true, true, true, false, false]]
def bb_X13_digest_13 : List sw_I := [sw_ld 3 2, sw_ld 2 7, sw_gf 21 0, sw_i2l, sw_cs m_X13_add 2, sw_stl 2, sw_push (.int 0), sw_sti 8, sw_goto 14 [true, true, true, false, true, true, true, true, true]]
def bb_X13_digest_14 : List sw_I := [sw_ld 0 8, sw_push (.int 8), sw_ic 3 15 [true, true, true, false, true, true, true, false, false], sw_ld 3 2, sw_ld 2 7, sw_ld 0 8, sw_cs m_X13_told_2 2, sw_i2l, sw_cs m_X13_add 2, sw_stl 2, sw_inc 8 1, sw_goto 14 [true, true, true, false, true, true, true, true, true]]
def bb_X13_digest_15 : List sw_I := [sw_inc 6 1, sw_goto 12 [true, true, true, false, true, true, true, false, false]]
def bb_X13_digest_16 : List sw_I := [sw_push (.int 0), sw_sti 4, sw_goto 17 [true, true, true, false, true, false, false, false, false]]
def bb_X13_digest_17 : List sw_I := [sw_ld 0 4, sw_ld 2 1, sw_gf 18 5, sw_cv 24 m_J2_size 0, sw_ic 3 20 [true, true, true, false, false, false, false, false, false], sw_push (.int 0), sw_sti 5, sw_goto 18 [true, true, true, false, true, true, false, false, false]]
def bb_X13_digest_18 : List sw_I := [sw_ld 0 5, sw_push (.int 4), sw_ic 3 19 [true, true, true, false, true, false, false, false, false], sw_ld 3 2, sw_ld 2 1, sw_ld 0 4, sw_ld 0 5, sw_cs m_X13_mapOf 3, sw_i2l, sw_cs m_X13_add 2, sw_stl 2, sw_inc 5 1, sw_goto 18 [true, true, true, false, true, true, false, false, false]]
def bb_X13_digest_19 : List sw_I := [sw_inc 4 1, sw_goto 17 [true, true, true, false, true, false, false, false, false]]
def bb_X13_digest_20 : List sw_I := [sw_push (.int 0), sw_sti 4, sw_goto 21 [true, true, true, false, true, false, false, false, false]]
def bb_X13_digest_21 : List sw_I := [sw_ld 0 4, sw_ld 2 1, sw_gf 18 7, sw_cv 24 m_J2_size 0, sw_ic 3 24 [true, false, true, false, false, false, false, false, false], sw_ld 2 1, sw_gf 18 7, sw_ld 0 4, sw_cv 24 m_J2_get 1, sw_ct [64], sw_sta 5, sw_ld 2 5, sw_al, sw_sti 6, sw_push (.int 0), sw_sti 7, sw_goto 22 [true, true, true, false, true, true, true, true, false]]
def bb_X13_digest_22 : List sw_I := [sw_ld 0 7, sw_ld 0 6, sw_ic 3 23 [true, true, true, false, true, false, false, false, false], sw_ld 2 5, sw_ld 0 7, sw_ald 64, sw_sti 8, sw_ld 3 2, sw_ld 0 8, sw_i2l, sw_cs m_X13_add 2, sw_stl 2, sw_inc 7 1, sw_goto 22 [true, true, true, false, true, true, true, true, false]]
def bb_X13_digest_23 : List sw_I := [sw_ld 3 2, sw_ld 2 1, sw_gf 18 13, sw_ld 0 4, sw_ald 64, sw_i2l, sw_cs m_X13_add 2, sw_stl 2, sw_inc 4 1, sw_goto 21 [true, true, true, false, true, false, false, false, false]]
def bb_X13_digest_24 : List sw_I := [sw_ld 3 2, sw_ld 2 0, sw_cv 12 m_X13_enoughNow 0, sw_i2l, sw_cs m_X13_add 2, sw_ld 2 0, sw_cv 12 m_X13_unorderedNow 0, sw_i2l, sw_cs m_X13_add 2, sw_ld 2 0, sw_push (.int 6), sw_push (.int 4), sw_push (.int 1), sw_push (.int 9), sw_cv 12 m_X13_withNow 4, sw_i2l, sw_cs m_X13_add 2, sw_ld 2 0, sw_push (.int 6), sw_push (.int 4), sw_push (.int 1), sw_push (.int 13), sw_cv 12 m_X13_withNow 4, sw_i2l, sw_cs m_X13_add 2, sw_rv 3]
def b_X13_digest : sw_B := fun n => match n with
  | 0 => bb_X13_digest_0
  | 1 => bb_X13_digest_1
  | 2 => bb_X13_digest_2
  | 3 => bb_X13_digest_3
  | 4 => bb_X13_digest_4
  | 5 => bb_X13_digest_5
  | 6 => bb_X13_digest_6
  | 7 => bb_X13_digest_7
  | 8 => bb_X13_digest_8
  | 9 => bb_X13_digest_9
  | 10 => bb_X13_digest_10
  | 11 => bb_X13_digest_11
  | 12 => bb_X13_digest_12
  | 13 => bb_X13_digest_13
  | 14 => bb_X13_digest_14
  | 15 => bb_X13_digest_15
  | 16 => bb_X13_digest_16
  | 17 => bb_X13_digest_17
  | 18 => bb_X13_digest_18
  | 19 => bb_X13_digest_19
  | 20 => bb_X13_digest_20
  | 21 => bb_X13_digest_21
  | 22 => bb_X13_digest_22
  | 23 => bb_X13_digest_23
  | 24 => bb_X13_digest_24
  | _ => []
/-! SpillslotWorksModel.add(JJ)J -/
def bb_X13_add_0 : List sw_I := [sw_ld 3 0, sw_push (.long 31), sw_ll (fun x y => x * y), sw_ld 3 2, sw_ll (fun x y => x + y), sw_rv 3]
def b_X13_add : sw_B := fun n => match n with
  | 0 => bb_X13_add_0
  | _ => []
/-! SpillslotWorksModel$Program.<init>()V -/
def bb_X14_init_0 : List sw_I := [sw_ld 2 0, sw_oin, sw_ld 2 0, sw_nw 24 [.int 0, .null, .int 0], sw_dup, sw_ci m_J2_init 0, sw_pf 13 0 2, sw_ld 2 0, sw_nw 24 [.int 0, .null, .int 0], sw_dup, sw_ci m_J2_init 0, sw_pf 13 1 2, sw_ld 2 0, sw_push (.int 4), sw_na 64, sw_dup, sw_push (.int 0), sw_push (.int 1), sw_ast 64, sw_dup, sw_push (.int 1), sw_push (.int 1), sw_ast 64, sw_dup, sw_push (.int 2), sw_push (.int 1), sw_ast 64, sw_dup, sw_push (.int 3), sw_push (.int 1), sw_ast 64, sw_pf 13 2 2, sw_ld 2 0, sw_push (.int 8), sw_na 64, sw_dup, sw_push (.int 0), sw_push (.int 1), sw_ast 64, sw_dup, sw_push (.int 1), sw_push (.int 1), sw_ast 64, sw_dup, sw_push (.int 2), sw_push (.int 1), sw_ast 64, sw_dup, sw_push (.int 3), sw_push (.int 3), sw_ast 64, sw_dup, sw_push (.int 4), sw_push (.int 3), sw_ast 64, sw_dup, sw_push (.int 5), sw_push (.int 2), sw_ast 64, sw_dup, sw_push (.int 6), sw_push (.int 1), sw_ast 64, sw_dup, sw_push (.int 7), sw_push (.int 5), sw_ast 64, sw_pf 13 3 2, sw_ld 2 0, sw_push (.int 1), sw_pf 13 4 0, sw_push (.int 0), sw_sti 1, sw_goto 1 [true, true]]
def bb_X14_init_1 : List sw_I := [sw_ld 0 1, sw_push (.int 4), sw_ic 3 2 [false, false], sw_ld 2 0, sw_gf 13 1, sw_nw 24 [.int 0, .null, .int 0], sw_dup, sw_ci m_J2_init 0, sw_cv 24 m_J2_add 1, sw_pop, sw_inc 1 1, sw_goto 1 [true, true]]
def bb_X14_init_2 : List sw_I := [sw_ret]
def b_X14_init : sw_B := fun n => match n with
  | 0 => bb_X14_init_0
  | 1 => bb_X14_init_1
  | 2 => bb_X14_init_2
  | _ => []
/-! SpillslotWorksModel$Program.of(I)LSpillslotWorksModel$Node; -/
def bb_X14_of_0 : List sw_I := [sw_ld 2 0, sw_gf 13 0, sw_ld 0 1, sw_cv 24 m_J2_get 1, sw_ct [16], sw_rv 2]
def b_X14_of : sw_B := fun n => match n with
  | 0 => bb_X14_of_0
  | _ => []
/-! SpillslotWorksModel$Program.meant()[I -/
def bb_X14_meant_0 : List sw_I := [sw_push (.int 8), sw_na 64, sw_sta 1, sw_push (.int 0), sw_sti 2, sw_goto 1 [true, true, true, false, false, false]]
def bb_X14_meant_1 : List sw_I := [sw_ld 0 2, sw_push (.int 4), sw_ic 3 6 [false, true, false, false, false, false], sw_push (.int 0), sw_sti 3, sw_goto 2 [true, true, true, true, false, false]]
def bb_X14_meant_2 : List sw_I := [sw_ld 0 3, sw_ld 2 0, sw_gf 13 2, sw_ld 0 2, sw_ald 64, sw_ic 3 5 [true, true, true, false, false, false], sw_ld 2 0, sw_gf 13 1, sw_ld 0 2, sw_cv 24 m_J2_get 1, sw_ct [24], sw_cv 24 m_J2_iterator 0, sw_sta 4, sw_goto 3 [true, true, true, true, true, false]]
def bb_X14_meant_3 : List sw_I := [sw_ld 2 4, sw_cv 25 m_J23_hasNext 0, sw_iz 0 4 [true, true, true, true, false, false], sw_ld 2 4, sw_cv 25 m_J23_next 0, sw_ct [64], sw_sta 5, sw_ld 2 1, sw_ld 2 5, sw_push (.int 0), sw_ald 64, sw_ld 2 0, sw_ld 2 5, sw_push (.int 1), sw_ald 64, sw_ld 2 1, sw_cv 13 m_X14_meant_2 2, sw_ast 64, sw_goto 3 [true, true, true, true, true, false]]
def bb_X14_meant_4 : List sw_I := [sw_inc 3 1, sw_goto 2 [true, true, true, true, false, false]]
def bb_X14_meant_5 : List sw_I := [sw_inc 2 1, sw_goto 1 [true, true, true, false, false, false]]
def bb_X14_meant_6 : List sw_I := [sw_ld 2 1, sw_rv 2]
def b_X14_meant : sw_B := fun n => match n with
  | 0 => bb_X14_meant_0
  | 1 => bb_X14_meant_1
  | 2 => bb_X14_meant_2
  | 3 => bb_X14_meant_3
  | 4 => bb_X14_meant_4
  | 5 => bb_X14_meant_5
  | 6 => bb_X14_meant_6
  | _ => []
/-! SpillslotWorksModel$Program.meant(I[I)I -/
def bb_X14_meant_2_0 : List sw_I := [sw_ld 2 0, sw_ld 0 1, sw_cv 13 m_X14_of 1, sw_sta 3, sw_ld 2 3, sw_gf 16 0, sw_iz 1 1 [true, false, true, true, false, false], sw_ld 2 3, sw_gf 16 1, sw_rv 0]
def bb_X14_meant_2_1 : List sw_I := [sw_ld 2 3, sw_gf 16 0, sw_push (.int 1), sw_ic 1 2 [true, false, true, true, false, false], sw_ld 2 2, sw_ld 2 3, sw_gf 16 1, sw_ald 64, sw_rv 0]
def bb_X14_meant_2_2 : List sw_I := [sw_ld 2 0, sw_ld 2 3, sw_gf 16 1, sw_ld 2 2, sw_cv 13 m_X14_meant_2 2, sw_sti 4, sw_ld 2 0, sw_ld 2 3, sw_gf 16 2, sw_ld 2 2, sw_cv 13 m_X14_meant_2 2, sw_sti 5, sw_ld 2 3, sw_gf 16 0, sw_push (.int 2), sw_ic 1 3 [false, false, false, true, true, true], sw_ld 0 4, sw_ld 0 5, sw_ii (fun x y => x + y), sw_goto 6 [false, false, false, false, false, false]]
def bb_X14_meant_2_3 : List sw_I := [sw_ld 2 3, sw_gf 16 0, sw_push (.int 3), sw_ic 1 4 [false, false, false, true, true, true], sw_ld 0 4, sw_ld 0 5, sw_ii (fun x y => x - y), sw_goto 6 [false, false, false, false, false, false]]
def bb_X14_meant_2_4 : List sw_I := [sw_ld 2 3, sw_gf 16 0, sw_push (.int 4), sw_ic 1 5 [false, false, false, false, true, true], sw_ld 0 4, sw_ld 0 5, sw_ii (fun x y => x * y), sw_goto 6 [false, false, false, false, false, false]]
def bb_X14_meant_2_5 : List sw_I := [sw_push (.int 3), sw_ld 0 4, sw_ii (fun x y => x * y), sw_push (.int 2), sw_ld 0 5, sw_ii (fun x y => x * y), sw_ii (fun x y => x + y), sw_push (.int 1), sw_ii (fun x y => x + y), sw_goto 6 [false, false, false, false, false, false]]
def bb_X14_meant_2_6 : List sw_I := [sw_rv 0]
def b_X14_meant_2 : sw_B := fun n => match n with
  | 0 => bb_X14_meant_2_0
  | 1 => bb_X14_meant_2_1
  | 2 => bb_X14_meant_2_2
  | 3 => bb_X14_meant_2_3
  | 4 => bb_X14_meant_2_4
  | 5 => bb_X14_meant_2_5
  | 6 => bb_X14_meant_2_6
  | _ => []
/-! SpillslotWorksModel$Program.latency(I)I -/
def bb_X14_latency_0 : List sw_I := [sw_ld 2 0, sw_gf 13 3, sw_ld 0 1, sw_push (.int 3), sw_ic 0 1 [false, false], sw_ld 0 1, sw_push (.int 5), sw_ic 1 2 [false, true], sw_goto 1 [false, false]]
def bb_X14_latency_1 : List sw_I := [sw_push (.int 2), sw_goto 8 [false, false]]
def bb_X14_latency_2 : List sw_I := [sw_ld 0 1, sw_push (.int 4), sw_ic 1 3 [false, true], sw_push (.int 3), sw_goto 8 [false, false]]
def bb_X14_latency_3 : List sw_I := [sw_ld 0 1, sw_push (.int 6), sw_ic 1 4 [false, true], sw_push (.int 4), sw_goto 8 [false, false]]
def bb_X14_latency_4 : List sw_I := [sw_ld 0 1, sw_push (.int 7), sw_ic 1 5 [false, true], sw_push (.int 5), sw_goto 8 [false, false]]
def bb_X14_latency_5 : List sw_I := [sw_ld 0 1, sw_push (.int 8), sw_ic 1 6 [false, true], sw_push (.int 6), sw_goto 8 [false, false]]
def bb_X14_latency_6 : List sw_I := [sw_ld 0 1, sw_push (.int 9), sw_ic 1 7 [false, true], sw_push (.int 7), sw_goto 8 [false, false]]
def bb_X14_latency_7 : List sw_I := [sw_ld 0 1, sw_goto 8 [false, false]]
def bb_X14_latency_8 : List sw_I := [sw_ald 64, sw_rv 0]
def b_X14_latency : sw_B := fun n => match n with
  | 0 => bb_X14_latency_0
  | 1 => bb_X14_latency_1
  | 2 => bb_X14_latency_2
  | 3 => bb_X14_latency_3
  | 4 => bb_X14_latency_4
  | 5 => bb_X14_latency_5
  | 6 => bb_X14_latency_6
  | 7 => bb_X14_latency_7
  | 8 => bb_X14_latency_8
  | _ => []
/-! SpillslotWorksModel$Machine.<init>(IIIZZ)V -/
def bb_X15_init_0 : List sw_I := [sw_ld 2 0, sw_oin, sw_ld 2 0, sw_ld 0 1, sw_pf 14 0 0, sw_ld 2 0, sw_ld 0 2, sw_pf 14 1 0, sw_ld 2 0, sw_ld 0 3, sw_pf 14 2 0, sw_ld 2 0, sw_ld 0 4, sw_pf 14 3 1, sw_ld 2 0, sw_ld 0 5, sw_pf 14 4 1, sw_ret]
def b_X15_init : sw_B := fun n => match n with
  | 0 => bb_X15_init_0
  | _ => []
/-! SpillslotWorksModel$Machine.scratch()I -/
def bb_X15_scratch_0 : List sw_I := [sw_ld 2 0, sw_gf 14 0, sw_push (.int 3), sw_ii (fun x y => x - y), sw_rv 0]
def b_X15_scratch : sw_B := fun n => match n with
  | 0 => bb_X15_scratch_0
  | _ => []
/-! SpillslotWorksModel$Machine.isKept(I)Z -/
def bb_X15_isKept_0 : List sw_I := [sw_ld 2 0, sw_gf 14 1, sw_ld 0 1, sw_cs m_X13_has 2, sw_rv 1]
def b_X15_isKept : sw_B := fun n => match n with
  | 0 => bb_X15_isKept_0
  | _ => []
/-! SpillslotWorks$Node.isOfTwo()Z -/
def bb_X16_isOfTwo_0 : List sw_I := [sw_ld 2 0, sw_gf 15 0, sw_cv 40 m_J8_ordinal 0, sw_gs 2, sw_cv 40 m_J8_ordinal 0, sw_ic 2 1 [false], sw_push (.int 1), sw_goto 2 [false]]
def bb_X16_isOfTwo_1 : List sw_I := [sw_push (.int 0), sw_goto 2 [false]]
def bb_X16_isOfTwo_2 : List sw_I := [sw_rv 1]
def b_X16_isOfTwo : sw_B := fun n => match n with
  | 0 => bb_X16_isOfTwo_0
  | 1 => bb_X16_isOfTwo_1
  | 2 => bb_X16_isOfTwo_2
  | _ => []
/-! SpillslotWorks$Node.is(LSpillslotWorks$Kind;)Z -/
def bb_X16_is_0 : List sw_I := [sw_ld 2 0, sw_gf 15 0, sw_ld 2 1, sw_iac false 1 [false, false], sw_push (.int 1), sw_goto 2 [false, false]]
def bb_X16_is_1 : List sw_I := [sw_push (.int 0), sw_goto 2 [false, false]]
def bb_X16_is_2 : List sw_I := [sw_rv 1]
def b_X16_is : sw_B := fun n => match n with
  | 0 => bb_X16_is_0
  | 1 => bb_X16_is_1
  | 2 => bb_X16_is_2
  | _ => []
/-! SpillslotWorks$Node.<init>(LSpillslotWorks$Kind;II)V -/
def bb_X16_init_0 : List sw_I := [sw_ld 2 0, sw_oin, sw_ld 2 0, sw_ld 2 1, sw_pf 15 0 2, sw_ld 2 0, sw_ld 0 2, sw_pf 15 1 0, sw_ld 2 0, sw_ld 0 3, sw_pf 15 2 0, sw_ret]
def b_X16_init : sw_B := fun n => match n with
  | 0 => bb_X16_init_0
  | _ => []
/-! SpillslotWorksModel$Node.<init>(III)V -/
def bb_X17_init_0 : List sw_I := [sw_ld 2 0, sw_oin, sw_ld 2 0, sw_ld 0 1, sw_pf 16 0 0, sw_ld 2 0, sw_ld 0 2, sw_pf 16 1 0, sw_ld 2 0, sw_ld 0 3, sw_pf 16 2 0, sw_ret]
def b_X17_init : sw_B := fun n => match n with
  | 0 => bb_X17_init_0
  | _ => []
/-! SpillslotWorksModel$Node.isOfTwo()Z -/
def bb_X17_isOfTwo_0 : List sw_I := [sw_ld 2 0, sw_gf 16 0, sw_push (.int 2), sw_ic 2 1 [false], sw_push (.int 1), sw_goto 2 [false]]
def bb_X17_isOfTwo_1 : List sw_I := [sw_push (.int 0), sw_goto 2 [false]]
def bb_X17_isOfTwo_2 : List sw_I := [sw_rv 1]
def b_X17_isOfTwo : sw_B := fun n => match n with
  | 0 => bb_X17_isOfTwo_0
  | 1 => bb_X17_isOfTwo_1
  | 2 => bb_X17_isOfTwo_2
  | _ => []
/-! SpillslotWorks$Statement.<init>(II)V -/
def bb_X18_init_0 : List sw_I := [sw_ld 2 0, sw_oin, sw_ld 2 0, sw_ld 0 1, sw_pf 17 0 0, sw_ld 2 0, sw_ld 0 2, sw_pf 17 1 0, sw_ret]
def b_X18_init : sw_B := fun n => match n with
  | 0 => bb_X18_init_0
  | _ => []
/-! SpillslotWorksModel$Plan.<init>(LSpillslotWorksModel$Program;LSpillslotWorksModel$Machine;Z)V -/
def bb_X19_init_0 : List sw_I := [sw_ld 2 0, sw_oin, sw_ld 2 0, sw_nw 24 [.int 0, .null, .int 0], sw_dup, sw_ci m_J2_init 0, sw_pf 18 4 2, sw_ld 2 0, sw_nw 24 [.int 0, .null, .int 0], sw_dup, sw_ci m_J2_init 0, sw_pf 18 5 2, sw_ld 2 0, sw_nw 24 [.int 0, .null, .int 0], sw_dup, sw_ci m_J2_init 0, sw_pf 18 7 2, sw_ld 2 0, sw_ld 2 1, sw_pf 18 0 2, sw_ld 2 0, sw_ld 2 2, sw_pf 18 1 2, sw_ld 2 0, sw_nw 19 [.null, .null, .null, .int 0, .null, .int 0, .int 0], sw_dup, sw_ld 2 1, sw_ld 2 2, sw_ld 0 3, sw_ci m_X20_init 3, sw_gf 19 2, sw_pf 18 2 2, sw_push (.int 8), sw_sti 4, sw_ld 2 0, sw_gf 18 2, sw_cv 24 m_J2_iterator 0, sw_sta 5, sw_goto 1 [true, false, false, false, true, true, false]]
def bb_X19_init_1 : List sw_I := [sw_ld 2 5, sw_cv 25 m_J23_hasNext 0, sw_iz 0 2 [true, false, false, false, true, false, false], sw_ld 2 5, sw_cv 25 m_J23_next 0, sw_ct [20], sw_sta 6, sw_ld 0 4, sw_ld 2 6, sw_gf 20 1, sw_push (.int 1), sw_ii (fun x y => x + y), sw_mm sw_max, sw_sti 4, sw_goto 1 [true, false, false, false, true, true, false]]
def bb_X19_init_2 : List sw_I := [sw_ld 2 0, sw_ld 0 4, sw_na 68, sw_pf 18 3 2, sw_push (.int 0), sw_sti 5, sw_goto 3 [true, false, false, false, true, true, false]]
def bb_X19_init_3 : List sw_I := [sw_ld 0 5, sw_ld 0 4, sw_ic 3 4 [true, false, false, false, false, false, false], sw_ld 2 0, sw_gf 18 3, sw_ld 0 5, sw_nw 21 [.int 0, .int 0, .int 0, .int 0, .int 0, .int 0, .int 0, .int 0, .int 0, .int 0, .int 0, .int 0], sw_dup, sw_ld 0 5, sw_ci m_X22_init 1, sw_asr 68 [21], sw_inc 5 1, sw_goto 3 [true, false, false, false, true, true, false]]
def bb_X19_init_4 : List sw_I := [sw_ld 2 0, sw_cv 18 m_X19_live 0, sw_ld 2 0, sw_cv 18 m_X19_give 0, sw_ld 2 0, sw_gf 18 4, sw_cv 24 m_J2_iterator 0, sw_sta 5, sw_goto 5 [true, false, false, false, false, true, false]]
def bb_X19_init_5 : List sw_I := [sw_ld 2 5, sw_cv 25 m_J23_hasNext 0, sw_iz 0 7 [true, false, false, false, false, false, false], sw_ld 2 5, sw_cv 25 m_J23_next 0, sw_ct [21], sw_sta 6, sw_ld 2 6, sw_cv 21 m_X22_isSpilled 0, sw_iz 0 6 [true, false, false, false, false, true, false], sw_ld 2 0, sw_ld 2 6, sw_cv 18 m_X19_spill 1, sw_goto 6 [true, false, false, false, false, true, false]]
def bb_X19_init_6 : List sw_I := [sw_goto 5 [true, false, false, false, false, true, false]]
def bb_X19_init_7 : List sw_I := [sw_push (.int 0), sw_sti 5, sw_goto 8 [true, false, false, false, false, true, false]]
def bb_X19_init_8 : List sw_I := [sw_ld 0 5, sw_ld 2 0, sw_gf 18 2, sw_cv 24 m_J2_size 0, sw_ic 3 9 [true, false, false, false, false, false, false], sw_nw 22 [.int 0, .null, .null], sw_dup, sw_ld 2 0, sw_ld 0 5, sw_ci m_X23_init 2, sw_cv 22 m_X23_lay 0, sw_inc 5 1, sw_goto 8 [true, false, false, false, false, true, false]]
def bb_X19_init_9 : List sw_I := [sw_nw 23 [.null, .int 0, .int 0, .null], sw_dup, sw_ld 2 0, sw_ci m_X24_init 1, sw_cv 23 m_X24_go 0, sw_ret]
def b_X19_init : sw_B := fun n => match n with
  | 0 => bb_X19_init_0
  | 1 => bb_X19_init_1
  | 2 => bb_X19_init_2
  | 3 => bb_X19_init_3
  | 4 => bb_X19_init_4
  | 5 => bb_X19_init_5
  | 6 => bb_X19_init_6
  | 7 => bb_X19_init_7
  | 8 => bb_X19_init_8
  | 9 => bb_X19_init_9
  | _ => []
/-! SpillslotWorksModel$Plan.live()V -/
def bb_X19_live_0 : List sw_I := [sw_push (.int 0), sw_sti 1, sw_goto 1 [true, true, false, false, false, false, false]]
def bb_X19_live_1 : List sw_I := [sw_ld 0 1, sw_ld 2 0, sw_gf 18 2, sw_cv 24 m_J2_size 0, sw_ic 3 5 [true, false, false, false, false, false, false], sw_ld 2 0, sw_gf 18 2, sw_ld 0 1, sw_cv 24 m_J2_get 1, sw_ct [20], sw_sta 2, sw_ld 2 2, sw_gf 20 0, sw_push (.int 9), sw_ic 1 2 [true, true, true, false, false, false, false], sw_ld 2 0, sw_gf 18 5, sw_ld 0 1, sw_cs m_J19_valueOf 1, sw_cv 24 m_J2_add 1, sw_pop, sw_goto 2 [true, true, true, false, false, false, false]]
def bb_X19_live_2 : List sw_I := [sw_ld 2 2, sw_gf 20 2, sw_sta 3, sw_ld 2 3, sw_al, sw_sti 4, sw_push (.int 0), sw_sti 5, sw_goto 3 [true, true, true, true, true, true, false]]
def bb_X19_live_3 : List sw_I := [sw_ld 0 5, sw_ld 0 4, sw_ic 3 4 [true, true, true, false, false, false, false], sw_ld 2 3, sw_ld 0 5, sw_ald 64, sw_sti 6, sw_ld 2 0, sw_ld 0 6, sw_ld 0 1, sw_ld 2 0, sw_ld 2 2, sw_cv 18 m_X19_timesOf 1, sw_cv 18 m_X19_touch 3, sw_inc 5 1, sw_goto 3 [true, true, true, true, true, true, false]]
def bb_X19_live_4 : List sw_I := [sw_ld 2 0, sw_ld 2 2, sw_gf 20 1, sw_ld 0 1, sw_ld 2 0, sw_ld 2 2, sw_cv 18 m_X19_timesOf 1, sw_cv 18 m_X19_touch 3, sw_ld 2 0, sw_ld 2 0, sw_gf 18 3, sw_ld 2 2, sw_gf 20 1, sw_ald 68, sw_ld 2 2, sw_ld 0 1, sw_cv 18 m_X19_note 3, sw_inc 1 1, sw_goto 1 [true, true, false, false, false, false, false]]
def bb_X19_live_5 : List sw_I := [sw_ld 2 0, sw_gf 18 3, sw_sta 1, sw_ld 2 1, sw_al, sw_sti 2, sw_push (.int 0), sw_sti 3, sw_goto 6 [true, true, true, true, false, false, false]]
def bb_X19_live_6 : List sw_I := [sw_ld 0 3, sw_ld 0 2, sw_ic 3 8 [true, false, false, false, false, false, false], sw_ld 2 1, sw_ld 0 3, sw_ald 68, sw_sta 4, sw_ld 2 4, sw_cv 21 m_X22_isIn 0, sw_iz 0 7 [true, true, true, true, false, false, false], sw_ld 2 0, sw_ld 2 4, sw_cv 18 m_X19_settle 1, sw_goto 7 [true, true, true, true, false, false, false]]
def bb_X19_live_7 : List sw_I := [sw_inc 3 1, sw_goto 6 [true, true, true, true, false, false, false]]
def bb_X19_live_8 : List sw_I := [sw_push (.int 0), sw_sti 1, sw_goto 9 [true, true, false, false, false, false, false]]
def bb_X19_live_9 : List sw_I := [sw_ld 0 1, sw_ld 2 0, sw_gf 18 2, sw_cv 24 m_J2_size 0, sw_ic 3 13 [false, false, false, false, false, false, false], sw_ld 2 0, sw_gf 18 3, sw_sta 2, sw_ld 2 2, sw_al, sw_sti 3, sw_push (.int 0), sw_sti 4, sw_goto 10 [true, true, true, true, true, false, false]]
def bb_X19_live_10 : List sw_I := [sw_ld 0 4, sw_ld 0 3, sw_ic 3 12 [true, true, false, false, false, false, false], sw_ld 2 2, sw_ld 0 4, sw_ald 68, sw_sta 5, sw_ld 2 5, sw_gf 21 1, sw_ld 0 1, sw_ic 1 11 [true, true, true, true, true, false, false], sw_ld 2 0, sw_gf 18 4, sw_ld 2 5, sw_cv 24 m_J2_add 1, sw_pop, sw_goto 11 [true, true, true, true, true, false, false]]
def bb_X19_live_11 : List sw_I := [sw_inc 4 1, sw_goto 10 [true, true, true, true, true, false, false]]
def bb_X19_live_12 : List sw_I := [sw_inc 1 1, sw_goto 9 [true, true, false, false, false, false, false]]
def bb_X19_live_13 : List sw_I := [sw_ret]
def b_X19_live : sw_B := fun n => match n with
  | 0 => bb_X19_live_0
  | 1 => bb_X19_live_1
  | 2 => bb_X19_live_2
  | 3 => bb_X19_live_3
  | 4 => bb_X19_live_4
  | 5 => bb_X19_live_5
  | 6 => bb_X19_live_6
  | 7 => bb_X19_live_7
  | 8 => bb_X19_live_8
  | 9 => bb_X19_live_9
  | 10 => bb_X19_live_10
  | 11 => bb_X19_live_11
  | 12 => bb_X19_live_12
  | 13 => bb_X19_live_13
  | _ => []
/-! SpillslotWorksModel$Plan.timesOf(LSpillslotWorksModel$Op;)I -/
def bb_X19_timesOf_0 : List sw_I := [sw_ld 2 1, sw_gf 20 4, sw_push (.int (-1)), sw_ic 1 1 [true, true], sw_push (.int 1), sw_goto 2 [false, false]]
def bb_X19_timesOf_1 : List sw_I := [sw_ld 2 0, sw_gf 18 0, sw_gf 13 2, sw_ld 2 1, sw_gf 20 4, sw_ald 64, sw_goto 2 [false, false]]
def bb_X19_timesOf_2 : List sw_I := [sw_rv 0]
def b_X19_timesOf : sw_B := fun n => match n with
  | 0 => bb_X19_timesOf_0
  | 1 => bb_X19_timesOf_1
  | 2 => bb_X19_timesOf_2
  | _ => []
/-! SpillslotWorksModel$Plan.touch(III)V -/
def bb_X19_touch_0 : List sw_I := [sw_ld 2 0, sw_gf 18 3, sw_ld 0 1, sw_ald 68, sw_dup, sw_gf 21 3, sw_push (.int 1), sw_ii (fun x y => x + y), sw_pf 21 3 0, sw_ld 2 0, sw_gf 18 3, sw_ld 0 1, sw_ald 68, sw_dup, sw_gf 21 4, sw_ld 0 3, sw_ii (fun x y => x + y), sw_pf 21 4 0, sw_ld 2 0, sw_gf 18 3, sw_ld 0 1, sw_ald 68, sw_ld 0 2, sw_pf 21 2 0, sw_ret]
def b_X19_touch : sw_B := fun n => match n with
  | 0 => bb_X19_touch_0
  | _ => []
/-! SpillslotWorksModel$Plan.note(LSpillslotWorksModel$Life;LSpillslotWorksModel$Op;I)V -/
def bb_X19_note_0 : List sw_I := [sw_ld 2 1, sw_dup, sw_gf 21 11, sw_push (.int 1), sw_ii (fun x y => x + y), sw_pf 21 11 0, sw_ld 2 1, sw_gf 21 1, sw_push (.int (-1)), sw_ic 0 1 [true, true, true, true, false], sw_ld 2 1, sw_push (.int 0), sw_pf 21 8 1, sw_ret]
def bb_X19_note_1 : List sw_I := [sw_ld 2 1, sw_ld 0 3, sw_pf 21 1 0, sw_ld 2 1, sw_ld 2 2, sw_gf 20 0, sw_iz 1 2 [true, true, true, false, false], sw_push (.int 1), sw_goto 3 [true, true, true, false, false]]
def bb_X19_note_2 : List sw_I := [sw_push (.int 0), sw_goto 3 [true, true, true, false, false]]
def bb_X19_note_3 : List sw_I := [sw_pf 21 8 1, sw_ld 2 1, sw_ld 2 2, sw_gf 20 3, sw_pf 21 9 0, sw_ld 2 2, sw_gf 20 0, sw_push (.int 1), sw_ic 0 4 [false, true, true, false, false], sw_ld 2 0, sw_gf 18 1, sw_gf 14 4, sw_iz 0 5 [false, true, true, false, false], sw_ld 2 2, sw_gf 20 0, sw_push (.int 2), sw_ic 2 5 [false, true, true, false, false], sw_ld 2 2, sw_gf 20 0, sw_push (.int 4), sw_ic 4 5 [false, true, true, false, false], sw_goto 4 [false, true, true, false, false]]
def bb_X19_note_4 : List sw_I := [sw_push (.int 1), sw_goto 6 [false, true, true, false, false]]
def bb_X19_note_5 : List sw_I := [sw_push (.int 0), sw_goto 6 [false, true, true, false, false]]
def bb_X19_note_6 : List sw_I := [sw_sti 4, sw_ld 0 4, sw_iz 0 7 [false, false, false, false, false], sw_ld 2 1, sw_ld 2 2, sw_gf 20 2, sw_push (.int 0), sw_ald 64, sw_pf 21 10 0, sw_goto 7 [false, false, false, false, false]]
def bb_X19_note_7 : List sw_I := [sw_ret]
def b_X19_note : sw_B := fun n => match n with
  | 0 => bb_X19_note_0
  | 1 => bb_X19_note_1
  | 2 => bb_X19_note_2
  | 3 => bb_X19_note_3
  | 4 => bb_X19_note_4
  | 5 => bb_X19_note_5
  | 6 => bb_X19_note_6
  | 7 => bb_X19_note_7
  | _ => []
/-! SpillslotWorksModel$Plan.settle(LSpillslotWorksModel$Life;)V -/
def bb_X19_settle_0 : List sw_I := [sw_ld 2 1, sw_gf 21 0, sw_push (.int 8), sw_ic 3 1 [true, true, false, false], sw_ld 2 0, sw_gf 18 0, sw_gf 13 4, sw_ld 2 1, sw_gf 21 0, sw_cs m_X13_has 2, sw_iz 0 1 [true, true, false, false], sw_ld 2 1, sw_ld 2 0, sw_gf 18 2, sw_cv 24 m_J2_size 0, sw_pf 21 2 0, sw_goto 2 [true, true, false, false]]
def bb_X19_settle_1 : List sw_I := [sw_ld 2 0, sw_ld 2 1, sw_cv 18 m_X19_stretch 1, sw_goto 2 [true, true, false, false]]
def bb_X19_settle_2 : List sw_I := [sw_ld 2 1, sw_push (.int 100), sw_ld 2 1, sw_gf 21 4, sw_ii (fun x y => x * y), sw_ld 2 1, sw_gf 21 2, sw_ld 2 1, sw_gf 21 1, sw_ii (fun x y => x - y), sw_push (.int 1), sw_ii (fun x y => x + y), sw_dvi (fun x y => x / y), sw_pf 21 4 0, sw_ld 2 0, sw_gf 18 5, sw_cv 24 m_J2_iterator 0, sw_sta 2, sw_goto 3 [false, true, true, false]]
def bb_X19_settle_3 : List sw_I := [sw_ld 2 2, sw_cv 25 m_J23_hasNext 0, sw_iz 0 6 [false, false, false, false], sw_ld 2 2, sw_cv 25 m_J23_next 0, sw_ct [41], sw_cv 41 m_J19_intValue 0, sw_sti 3, sw_ld 2 1, sw_dup, sw_gf 21 5, sw_ld 2 1, sw_ld 0 3, sw_cv 21 m_X22_goesOver 1, sw_iz 0 4 [false, true, true, false], sw_push (.int 1), sw_goto 5 [false, true, true, false]]
def bb_X19_settle_4 : List sw_I := [sw_push (.int 0), sw_goto 5 [false, true, true, false]]
def bb_X19_settle_5 : List sw_I := [sw_ii (fun x y => x + y), sw_pf 21 5 0, sw_goto 3 [false, true, true, false]]
def bb_X19_settle_6 : List sw_I := [sw_ret]
def b_X19_settle : sw_B := fun n => match n with
  | 0 => bb_X19_settle_0
  | 1 => bb_X19_settle_1
  | 2 => bb_X19_settle_2
  | 3 => bb_X19_settle_3
  | 4 => bb_X19_settle_4
  | 5 => bb_X19_settle_5
  | 6 => bb_X19_settle_6
  | _ => []
/-! SpillslotWorksModel$Plan.stretch(LSpillslotWorksModel$Life;)V -/
def bb_X19_stretch_0 : List sw_I := [sw_ld 2 0, sw_gf 18 2, sw_ld 2 1, sw_gf 21 2, sw_cv 24 m_J2_get 1, sw_ct [20], sw_gf 20 4, sw_sti 2, sw_ld 0 2, sw_push (.int (-1)), sw_ic 0 1 [false, false, false, false], sw_ld 2 0, sw_gf 18 0, sw_gf 13 2, sw_ld 0 2, sw_ald 64, sw_push (.int 1), sw_ic 0 1 [false, false, false, false], sw_ld 2 0, sw_gf 18 2, sw_ld 2 1, sw_gf 21 1, sw_cv 24 m_J2_get 1, sw_ct [20], sw_gf 20 4, sw_ld 0 2, sw_ic 1 2 [true, true, true, false], sw_goto 1 [false, false, false, false]]
def bb_X19_stretch_1 : List sw_I := [sw_ret]
def bb_X19_stretch_2 : List sw_I := [sw_ld 2 1, sw_gf 21 2, sw_sti 3, sw_goto 3 [true, true, true, true]]
def bb_X19_stretch_3 : List sw_I := [sw_ld 0 3, sw_ld 2 0, sw_gf 18 2, sw_cv 24 m_J2_size 0, sw_ic 3 4 [false, true, false, true], sw_ld 2 0, sw_gf 18 2, sw_ld 0 3, sw_cv 24 m_J2_get 1, sw_ct [20], sw_gf 20 4, sw_ld 0 2, sw_ic 1 4 [false, true, false, true], sw_inc 3 1, sw_goto 3 [true, true, true, true]]
def bb_X19_stretch_4 : List sw_I := [sw_ld 2 1, sw_ld 0 3, sw_pf 21 2 0, sw_ret]
def b_X19_stretch : sw_B := fun n => match n with
  | 0 => bb_X19_stretch_0
  | 1 => bb_X19_stretch_1
  | 2 => bb_X19_stretch_2
  | 3 => bb_X19_stretch_3
  | 4 => bb_X19_stretch_4
  | _ => []
/-! SpillslotWorksModel$Plan.give()V -/
def bb_X19_give_0 : List sw_I := [sw_ld 2 0, sw_gf 18 4, sw_cv 24 m_J2_iterator 0, sw_sta 1, sw_goto 1 [true, true, false, false, false, false]]
def bb_X19_give_1 : List sw_I := [sw_ld 2 1, sw_cv 25 m_J23_hasNext 0, sw_iz 0 14 [false, false, false, false, false, false], sw_ld 2 1, sw_cv 25 m_J23_next 0, sw_ct [21], sw_sta 2, sw_ld 2 0, sw_gf 18 1, sw_cv 14 m_X15_scratch 0, sw_na 65, sw_sta 3, sw_push (.int 0), sw_sti 4, sw_goto 2 [true, true, true, true, true, false]]
def bb_X19_give_2 : List sw_I := [sw_ld 0 4, sw_ld 2 3, sw_al, sw_ic 3 3 [true, true, true, true, false, false], sw_ld 2 3, sw_ld 0 4, sw_ld 2 0, sw_ld 2 2, sw_ld 0 4, sw_cv 18 m_X19_canHave 2, sw_ast 65, sw_inc 4 1, sw_goto 2 [true, true, true, true, true, false]]
def bb_X19_give_3 : List sw_I := [sw_ld 2 0, sw_gf 18 4, sw_cv 24 m_J2_iterator 0, sw_sta 4, sw_goto 4 [true, true, true, true, true, false]]
def bb_X19_give_4 : List sw_I := [sw_ld 2 4, sw_cv 25 m_J23_hasNext 0, sw_iz 0 6 [true, true, true, true, false, false], sw_ld 2 4, sw_cv 25 m_J23_next 0, sw_ct [21], sw_sta 5, sw_ld 2 5, sw_gf 21 6, sw_push (.int (-1)), sw_ic 0 5 [true, true, true, true, true, false], sw_ld 2 5, sw_gf 21 2, sw_ld 2 2, sw_gf 21 1, sw_ic 5 5 [true, true, true, true, true, false], sw_ld 2 3, sw_ld 2 5, sw_gf 21 6, sw_push (.int 0), sw_ast 65, sw_goto 5 [true, true, true, true, true, false]]
def bb_X19_give_5 : List sw_I := [sw_goto 4 [true, true, true, true, true, false]]
def bb_X19_give_6 : List sw_I := [sw_ld 2 2, sw_gf 21 10, sw_push (.int (-1)), sw_ic 1 7 [true, true, true, true, false, false], sw_push (.int (-1)), sw_goto 8 [true, true, true, true, false, false]]
def bb_X19_give_7 : List sw_I := [sw_ld 2 0, sw_gf 18 3, sw_ld 2 2, sw_gf 21 10, sw_ald 68, sw_gf 21 6, sw_goto 8 [true, true, true, true, false, false]]
def bb_X19_give_8 : List sw_I := [sw_sti 4, sw_ld 0 4, sw_push (.int (-1)), sw_ic 0 9 [true, true, true, true, false, false], sw_ld 2 3, sw_ld 0 4, sw_ald 65, sw_iz 0 9 [true, true, true, true, false, false], sw_ld 2 2, sw_ld 0 4, sw_pf 21 6 0, sw_goto 1 [true, true, false, false, false, false]]
def bb_X19_give_9 : List sw_I := [sw_ld 2 3, sw_al, sw_push (.int 1), sw_ii (fun x y => x - y), sw_sti 5, sw_goto 10 [true, true, true, true, false, true]]
def bb_X19_give_10 : List sw_I := [sw_ld 0 5, sw_iz 2 12 [true, true, true, false, false, false], sw_ld 2 3, sw_ld 0 5, sw_ald 65, sw_iz 0 11 [true, true, true, true, false, true], sw_ld 2 2, sw_ld 0 5, sw_pf 21 6 0, sw_goto 11 [true, true, true, true, false, true]]
def bb_X19_give_11 : List sw_I := [sw_inc 5 (-1), sw_goto 10 [true, true, true, true, false, true]]
def bb_X19_give_12 : List sw_I := [sw_ld 2 2, sw_gf 21 6, sw_push (.int (-1)), sw_ic 1 13 [true, true, false, false, false, false], sw_ld 2 0, sw_ld 2 2, sw_cv 18 m_X19_yieldOne 1, sw_goto 13 [true, true, false, false, false, false]]
def bb_X19_give_13 : List sw_I := [sw_goto 1 [true, true, false, false, false, false]]
def bb_X19_give_14 : List sw_I := [sw_ret]
def b_X19_give : sw_B := fun n => match n with
  | 0 => bb_X19_give_0
  | 1 => bb_X19_give_1
  | 2 => bb_X19_give_2
  | 3 => bb_X19_give_3
  | 4 => bb_X19_give_4
  | 5 => bb_X19_give_5
  | 6 => bb_X19_give_6
  | 7 => bb_X19_give_7
  | 8 => bb_X19_give_8
  | 9 => bb_X19_give_9
  | 10 => bb_X19_give_10
  | 11 => bb_X19_give_11
  | 12 => bb_X19_give_12
  | 13 => bb_X19_give_13
  | 14 => bb_X19_give_14
  | _ => []
/-! SpillslotWorksModel$Plan.canHave(LSpillslotWorksModel$Life;I)Z -/
def bb_X19_canHave_0 : List sw_I := [sw_ld 2 1, sw_gf 21 5, sw_iz 0 1 [false, false, false], sw_ld 2 0, sw_gf 18 1, sw_ld 0 2, sw_cv 14 m_X15_isKept 1, sw_iz 0 2 [false, false, false], sw_goto 1 [false, false, false]]
def bb_X19_canHave_1 : List sw_I := [sw_push (.int 1), sw_goto 3 [false, false, false]]
def bb_X19_canHave_2 : List sw_I := [sw_push (.int 0), sw_goto 3 [false, false, false]]
def bb_X19_canHave_3 : List sw_I := [sw_rv 1]
def b_X19_canHave : sw_B := fun n => match n with
  | 0 => bb_X19_canHave_0
  | 1 => bb_X19_canHave_1
  | 2 => bb_X19_canHave_2
  | 3 => bb_X19_canHave_3
  | _ => []
/-! SpillslotWorksModel$Plan.yieldOne(LSpillslotWorksModel$Life;)V -/
def bb_X19_yieldOne_0 : List sw_I := [sw_ld 2 1, sw_sta 2, sw_ld 2 0, sw_gf 18 4, sw_cv 24 m_J2_iterator 0, sw_sta 3, sw_goto 1 [true, true, true, true, false]]
def bb_X19_yieldOne_1 : List sw_I := [sw_ld 2 3, sw_cv 25 m_J23_hasNext 0, sw_iz 0 5 [false, true, true, false, false], sw_ld 2 3, sw_cv 25 m_J23_next 0, sw_ct [21], sw_sta 4, sw_ld 2 4, sw_gf 21 6, sw_push (.int (-1)), sw_ic 0 1 [true, true, true, true, false], sw_ld 2 4, sw_gf 21 2, sw_ld 2 1, sw_gf 21 1, sw_ic 5 1 [true, true, true, true, false], sw_ld 2 0, sw_ld 2 1, sw_ld 2 4, sw_gf 21 6, sw_cv 18 m_X19_canHave 2, sw_iz 1 2 [true, true, true, true, true], sw_goto 1 [true, true, true, true, false]]
def bb_X19_yieldOne_2 : List sw_I := [sw_ld 2 4, sw_gf 21 4, sw_ld 2 2, sw_gf 21 4, sw_ic 2 3 [true, true, false, true, true], sw_ld 2 4, sw_gf 21 4, sw_ld 2 2, sw_gf 21 4, sw_ic 1 4 [true, true, true, true, false], sw_ld 2 4, sw_gf 21 0, sw_ld 2 2, sw_gf 21 0, sw_ic 5 4 [true, true, true, true, false], sw_goto 3 [true, true, false, true, true]]
def bb_X19_yieldOne_3 : List sw_I := [sw_ld 2 4, sw_sta 2, sw_goto 4 [true, true, true, true, false]]
def bb_X19_yieldOne_4 : List sw_I := [sw_goto 1 [true, true, true, true, false]]
def bb_X19_yieldOne_5 : List sw_I := [sw_ld 2 2, sw_ld 2 1, sw_iac false 6 [false, true, true, false, false], sw_ret]
def bb_X19_yieldOne_6 : List sw_I := [sw_ld 2 1, sw_ld 2 2, sw_gf 21 6, sw_pf 21 6 0, sw_ld 2 2, sw_push (.int (-1)), sw_pf 21 6 0, sw_ret]
def b_X19_yieldOne : sw_B := fun n => match n with
  | 0 => bb_X19_yieldOne_0
  | 1 => bb_X19_yieldOne_1
  | 2 => bb_X19_yieldOne_2
  | 3 => bb_X19_yieldOne_3
  | 4 => bb_X19_yieldOne_4
  | 5 => bb_X19_yieldOne_5
  | 6 => bb_X19_yieldOne_6
  | _ => []
/-! SpillslotWorksModel$Plan.spill(LSpillslotWorksModel$Life;)V -/
def bb_X19_spill_0 : List sw_I := [sw_ld 2 1, sw_dup, sw_gf 21 8, sw_ld 2 1, sw_gf 21 11, sw_push (.int 1), sw_ic 1 1 [true, true, false], sw_push (.int 1), sw_goto 2 [true, true, false]]
def bb_X19_spill_1 : List sw_I := [sw_push (.int 0), sw_goto 2 [true, true, false]]
def bb_X19_spill_2 : List sw_I := [sw_ii (fun x y => x &&& y), sw_pf 21 8 1, sw_ld 2 1, sw_gf 21 8, sw_iz 0 3 [true, true, false], sw_ret]
def bb_X19_spill_3 : List sw_I := [sw_push (.int 0), sw_sti 2, sw_goto 4 [true, true, true]]
def bb_X19_spill_4 : List sw_I := [sw_ld 2 0, sw_ld 2 1, sw_ld 0 2, sw_cv 18 m_X19_isTaken 2, sw_iz 0 5 [true, true, true], sw_inc 2 1, sw_goto 4 [true, true, true]]
def bb_X19_spill_5 : List sw_I := [sw_ld 2 1, sw_ld 0 2, sw_pf 21 7 0, sw_ld 2 0, sw_ld 2 0, sw_gf 18 6, sw_ld 0 2, sw_push (.int 1), sw_ii (fun x y => x + y), sw_mm sw_max, sw_pf 18 6 0, sw_ret]
def b_X19_spill : sw_B := fun n => match n with
  | 0 => bb_X19_spill_0
  | 1 => bb_X19_spill_1
  | 2 => bb_X19_spill_2
  | 3 => bb_X19_spill_3
  | 4 => bb_X19_spill_4
  | 5 => bb_X19_spill_5
  | _ => []
/-! SpillslotWorksModel$Plan.isTaken(LSpillslotWorksModel$Life;I)Z -/
def bb_X19_isTaken_0 : List sw_I := [sw_ld 2 0, sw_gf 18 4, sw_cv 24 m_J2_iterator 0, sw_sta 3, sw_goto 1 [false, true, true, true, false]]
def bb_X19_isTaken_1 : List sw_I := [sw_ld 2 3, sw_cv 25 m_J23_hasNext 0, sw_iz 0 3 [false, false, false, false, false], sw_ld 2 3, sw_cv 25 m_J23_next 0, sw_ct [21], sw_sta 4, sw_ld 2 4, sw_ld 2 1, sw_iac true 2 [false, true, true, true, false], sw_ld 2 4, sw_gf 21 7, sw_ld 0 2, sw_ic 1 2 [false, true, true, true, false], sw_ld 2 4, sw_ld 2 1, sw_cv 21 m_X22_meets 1, sw_iz 0 2 [false, true, true, true, false], sw_push (.int 1), sw_rv 1]
def bb_X19_isTaken_2 : List sw_I := [sw_goto 1 [false, true, true, true, false]]
def bb_X19_isTaken_3 : List sw_I := [sw_push (.int 0), sw_rv 1]
def b_X19_isTaken : sw_B := fun n => match n with
  | 0 => bb_X19_isTaken_0
  | 1 => bb_X19_isTaken_1
  | 2 => bb_X19_isTaken_2
  | 3 => bb_X19_isTaken_3
  | _ => []
/-! SpillslotWorksModel$Plan.answer(I)I -/
def bb_X19_answer_0 : List sw_I := [sw_ld 2 0, sw_gf 18 3, sw_ld 0 1, sw_ald 68, sw_sta 2, sw_ld 2 2, sw_gf 21 6, sw_push (.int (-1)), sw_ic 0 1 [true, false, true], sw_ld 2 0, sw_gf 18 11, sw_ld 2 2, sw_gf 21 6, sw_ald 64, sw_goto 3 [false, false, false]]
def bb_X19_answer_1 : List sw_I := [sw_ld 2 2, sw_gf 21 8, sw_iz 0 2 [true, false, true], sw_ld 2 2, sw_gf 21 9, sw_goto 3 [false, false, false]]
def bb_X19_answer_2 : List sw_I := [sw_ld 2 0, sw_gf 18 12, sw_ld 2 2, sw_gf 21 7, sw_ald 64, sw_goto 3 [false, false, false]]
def bb_X19_answer_3 : List sw_I := [sw_rv 0]
def b_X19_answer : sw_B := fun n => match n with
  | 0 => bb_X19_answer_0
  | 1 => bb_X19_answer_1
  | 2 => bb_X19_answer_2
  | 3 => bb_X19_answer_3
  | _ => []
/-! SpillslotWorksModel$Plan.told(I)I -/
def bb_X19_told_0 : List sw_I := [sw_push (.int 13), sw_na 64, sw_dup, sw_push (.int 0), sw_ld 2 0, sw_gf 18 2, sw_cv 24 m_J2_size 0, sw_ast 64, sw_dup, sw_push (.int 1), sw_ld 2 0, sw_gf 18 4, sw_cv 24 m_J2_size 0, sw_ast 64, sw_dup, sw_push (.int 2), sw_ld 2 0, sw_push (.int 0), sw_cv 18 m_X19_spilled 1, sw_ast 64, sw_dup, sw_push (.int 3), sw_ld 2 0, sw_push (.int 1), sw_cv 18 m_X19_spilled 1, sw_ast 64, sw_dup, sw_push (.int 4), sw_ld 2 0, sw_gf 18 6, sw_ast 64, sw_dup, sw_push (.int 5), sw_ld 2 0, sw_cv 18 m_X19_frame 0, sw_ast 64, sw_dup, sw_push (.int 6), sw_ld 2 0, sw_gf 18 7, sw_cv 24 m_J2_size 0, sw_ast 64, sw_dup, sw_push (.int 7), sw_ld 2 0, sw_push (.int 1), sw_push (.int 1), sw_cv 18 m_X19_in 2, sw_ast 64, sw_dup, sw_push (.int 8), sw_ld 2 0, sw_push (.int 7), sw_push (.int 8), sw_cv 18 m_X19_in 2, sw_ast 64, sw_dup, sw_push (.int 9), sw_ld 2 0, sw_gf 18 8, sw_ast 64, sw_dup, sw_push (.int 10), sw_ld 2 0, sw_gf 18 9, sw_ast 64, sw_dup, sw_push (.int 11), sw_ld 2 0, sw_gf 18 10, sw_ast 64, sw_dup, sw_push (.int 12), sw_ld 2 0, sw_cv 18 m_X19_most 0, sw_ast 64, sw_sta 2, sw_ld 2 2, sw_ld 0 1, sw_push (.int 3), sw_ii (fun x y => x - y), sw_ald 64, sw_rv 0]
def b_X19_told : sw_B := fun n => match n with
  | 0 => bb_X19_told_0
  | _ => []
/-! SpillslotWorksModel$Plan.spilled(Z)I -/
def bb_X19_spilled_0 : List sw_I := [sw_push (.int 0), sw_sti 2, sw_ld 2 0, sw_gf 18 4, sw_cv 24 m_J2_iterator 0, sw_sta 3, sw_goto 1 [false, true, true, true, false]]
def bb_X19_spilled_1 : List sw_I := [sw_ld 2 3, sw_cv 25 m_J23_hasNext 0, sw_iz 0 5 [false, false, true, false, false], sw_ld 2 3, sw_cv 25 m_J23_next 0, sw_ct [21], sw_sta 4, sw_ld 0 2, sw_ld 2 4, sw_cv 21 m_X22_isSpilled 0, sw_iz 0 3 [false, true, false, true, false], sw_ld 0 1, sw_iz 0 2 [false, true, false, true, false], sw_ld 2 4, sw_gf 21 8, sw_iz 0 3 [false, true, false, true, false], sw_goto 2 [false, true, false, true, false]]
def bb_X19_spilled_2 : List sw_I := [sw_push (.int 1), sw_goto 4 [false, true, false, true, false]]
def bb_X19_spilled_3 : List sw_I := [sw_push (.int 0), sw_goto 4 [false, true, false, true, false]]
def bb_X19_spilled_4 : List sw_I := [sw_ii (fun x y => x + y), sw_sti 2, sw_goto 1 [false, true, true, true, false]]
def bb_X19_spilled_5 : List sw_I := [sw_ld 0 2, sw_rv 0]
def b_X19_spilled : sw_B := fun n => match n with
  | 0 => bb_X19_spilled_0
  | 1 => bb_X19_spilled_1
  | 2 => bb_X19_spilled_2
  | 3 => bb_X19_spilled_3
  | 4 => bb_X19_spilled_4
  | 5 => bb_X19_spilled_5
  | _ => []
/-! SpillslotWorksModel$Plan.frame()I -/
def bb_X19_frame_0 : List sw_I := [sw_push (.int 0), sw_sti 1, sw_ld 2 0, sw_gf 18 4, sw_cv 24 m_J2_iterator 0, sw_sta 2, sw_goto 1 [true, true, true, false]]
def bb_X19_frame_1 : List sw_I := [sw_ld 2 2, sw_cv 25 m_J23_hasNext 0, sw_iz 0 3 [true, true, false, false], sw_ld 2 2, sw_cv 25 m_J23_next 0, sw_ct [21], sw_sta 3, sw_ld 2 3, sw_gf 21 6, sw_push (.int (-1)), sw_ic 0 2 [true, true, true, false], sw_ld 2 0, sw_gf 18 1, sw_ld 2 3, sw_gf 21 6, sw_cv 14 m_X15_isKept 1, sw_iz 0 2 [true, true, true, false], sw_ld 0 1, sw_push (.int 1), sw_ld 2 3, sw_gf 21 6, sw_ii (fun x y => x <<< (y &&& 31)), sw_ii (fun x y => x ||| y), sw_sti 1, sw_goto 2 [true, true, true, false]]
def bb_X19_frame_2 : List sw_I := [sw_goto 1 [true, true, true, false]]
def bb_X19_frame_3 : List sw_I := [sw_ld 2 0, sw_gf 18 6, sw_ld 0 1, sw_cs m_J19_bitCount 1, sw_ii (fun x y => x + y), sw_sti 2, sw_ld 0 2, sw_ld 0 2, sw_push (.int 2), sw_dvi (fun x y => x - x / y * y), sw_ii (fun x y => x + y), sw_rv 0]
def b_X19_frame : sw_B := fun n => match n with
  | 0 => bb_X19_frame_0
  | 1 => bb_X19_frame_1
  | 2 => bb_X19_frame_2
  | 3 => bb_X19_frame_3
  | _ => []
/-! SpillslotWorksModel$Plan.in(II)I -/
def bb_X19_in_0 : List sw_I := [sw_push (.int 0), sw_sti 3, sw_ld 2 0, sw_gf 18 7, sw_cv 24 m_J2_iterator 0, sw_sta 4, sw_goto 1 [false, true, true, true, true, false]]
def bb_X19_in_1 : List sw_I := [sw_ld 2 4, sw_cv 25 m_J23_hasNext 0, sw_iz 0 5 [false, false, false, true, false, false], sw_ld 2 4, sw_cv 25 m_J23_next 0, sw_ct [64], sw_sta 5, sw_ld 0 3, sw_ld 2 5, sw_push (.int 0), sw_ald 64, sw_ld 0 1, sw_ic 0 2 [false, true, true, false, true, false], sw_ld 2 5, sw_push (.int 0), sw_ald 64, sw_ld 0 2, sw_ic 1 3 [false, true, true, false, true, false], sw_goto 2 [false, true, true, false, true, false]]
def bb_X19_in_2 : List sw_I := [sw_push (.int 1), sw_goto 4 [false, true, true, false, true, false]]
def bb_X19_in_3 : List sw_I := [sw_push (.int 0), sw_goto 4 [false, true, true, false, true, false]]
def bb_X19_in_4 : List sw_I := [sw_ii (fun x y => x + y), sw_sti 3, sw_goto 1 [false, true, true, true, true, false]]
def bb_X19_in_5 : List sw_I := [sw_ld 0 3, sw_rv 0]
def b_X19_in : sw_B := fun n => match n with
  | 0 => bb_X19_in_0
  | 1 => bb_X19_in_1
  | 2 => bb_X19_in_2
  | 3 => bb_X19_in_3
  | 4 => bb_X19_in_4
  | 5 => bb_X19_in_5
  | _ => []
/-! SpillslotWorksModel$Plan.most()I -/
def bb_X19_most_0 : List sw_I := [sw_push (.int 0), sw_sti 1, sw_push (.int 0), sw_sti 2, sw_goto 1 [true, true, true, false, false, false]]
def bb_X19_most_1 : List sw_I := [sw_ld 0 2, sw_ld 2 0, sw_gf 18 2, sw_cv 24 m_J2_size 0, sw_ic 4 6 [false, true, false, false, false, false], sw_push (.int 0), sw_sti 3, sw_ld 2 0, sw_gf 18 4, sw_cv 24 m_J2_iterator 0, sw_sta 4, sw_goto 2 [true, true, true, true, true, false]]
def bb_X19_most_2 : List sw_I := [sw_ld 2 4, sw_cv 25 m_J23_hasNext 0, sw_iz 0 5 [true, true, true, true, false, false], sw_ld 2 4, sw_cv 25 m_J23_next 0, sw_ct [21], sw_sta 5, sw_ld 0 3, sw_ld 2 5, sw_gf 21 1, sw_ld 0 2, sw_ic 4 3 [true, true, true, false, true, false], sw_ld 0 2, sw_ld 2 5, sw_gf 21 2, sw_ic 4 3 [true, true, true, false, true, false], sw_push (.int 1), sw_goto 4 [true, true, true, false, true, false]]
def bb_X19_most_3 : List sw_I := [sw_push (.int 0), sw_goto 4 [true, true, true, false, true, false]]
def bb_X19_most_4 : List sw_I := [sw_ii (fun x y => x + y), sw_sti 3, sw_goto 2 [true, true, true, true, true, false]]
def bb_X19_most_5 : List sw_I := [sw_ld 0 1, sw_ld 0 3, sw_mm sw_max, sw_sti 1, sw_inc 2 1, sw_goto 1 [true, true, true, false, false, false]]
def bb_X19_most_6 : List sw_I := [sw_ld 0 1, sw_rv 0]
def b_X19_most : sw_B := fun n => match n with
  | 0 => bb_X19_most_0
  | 1 => bb_X19_most_1
  | 2 => bb_X19_most_2
  | 3 => bb_X19_most_3
  | 4 => bb_X19_most_4
  | 5 => bb_X19_most_5
  | 6 => bb_X19_most_6
  | _ => []
/-! SpillslotWorks$Program.<init>()V -/
def bb_X2_init_0 : List sw_I := [sw_ld 2 0, sw_oin, sw_ld 2 0, sw_nw 24 [.int 0, .null, .int 0], sw_dup, sw_ci m_J2_init 0, sw_pf 1 0 2, sw_ld 2 0, sw_nw 24 [.int 0, .null, .int 0], sw_dup, sw_ci m_J2_init 0, sw_pf 1 1 2, sw_ld 2 0, sw_push (.int 4), sw_na 64, sw_pf 1 2 2, sw_ld 2 0, sw_push (.int 1), sw_pf 1 3 0, sw_push (.int 0), sw_sti 1, sw_goto 1 [true, true]]
def bb_X2_init_1 : List sw_I := [sw_ld 0 1, sw_push (.int 4), sw_ic 3 2 [false, false], sw_ld 2 0, sw_gf 1 1, sw_nw 24 [.int 0, .null, .int 0], sw_dup, sw_ci m_J2_init 0, sw_cv 24 m_J2_add 1, sw_pop, sw_ld 2 0, sw_gf 1 2, sw_ld 0 1, sw_push (.int 1), sw_ast 64, sw_inc 1 1, sw_goto 1 [true, true]]
def bb_X2_init_2 : List sw_I := [sw_ret]
def b_X2_init : sw_B := fun n => match n with
  | 0 => bb_X2_init_0
  | 1 => bb_X2_init_1
  | 2 => bb_X2_init_2
  | _ => []
/-! SpillslotWorks$Program.at(I)LSpillslotWorks$Node; -/
def bb_X2_at_0 : List sw_I := [sw_ld 2 0, sw_gf 1 0, sw_ld 0 1, sw_cv 24 m_J2_get 1, sw_ct [15], sw_rv 2]
def b_X2_at : sw_B := fun n => match n with
  | 0 => bb_X2_at_0
  | _ => []
/-! SpillslotWorks$Program.statements()I -/
def bb_X2_statements_0 : List sw_I := [sw_push (.int 0), sw_sti 1, sw_push (.int 0), sw_sti 2, sw_goto 1 [true, true, true]]
def bb_X2_statements_1 : List sw_I := [sw_ld 0 2, sw_push (.int 4), sw_ic 3 2 [false, true, false], sw_ld 0 1, sw_ld 2 0, sw_gf 1 1, sw_ld 0 2, sw_cv 24 m_J2_get 1, sw_ct [24], sw_cv 24 m_J2_size 0, sw_ii (fun x y => x + y), sw_sti 1, sw_inc 2 1, sw_goto 1 [true, true, true]]
def bb_X2_statements_2 : List sw_I := [sw_ld 0 1, sw_rv 0]
def b_X2_statements : sw_B := fun n => match n with
  | 0 => bb_X2_statements_0
  | 1 => bb_X2_statements_1
  | 2 => bb_X2_statements_2
  | _ => []
/-! SpillslotWorks$Program.meant()[I -/
def bb_X2_meant_0 : List sw_I := [sw_push (.int 8), sw_na 64, sw_sta 1, sw_push (.int 0), sw_sti 2, sw_goto 1 [true, true, true, false, false, false]]
def bb_X2_meant_1 : List sw_I := [sw_ld 0 2, sw_push (.int 4), sw_ic 3 6 [false, true, false, false, false, false], sw_ld 2 0, sw_gf 1 1, sw_ld 0 2, sw_cv 24 m_J2_get 1, sw_ct [24], sw_sta 3, sw_push (.int 0), sw_sti 4, sw_goto 2 [true, true, true, true, true, false]]
def bb_X2_meant_2 : List sw_I := [sw_ld 0 4, sw_ld 2 0, sw_gf 1 2, sw_ld 0 2, sw_ald 64, sw_ic 3 5 [true, true, true, false, false, false], sw_push (.int 0), sw_sti 5, sw_goto 3 [true, true, true, true, true, true]]
def bb_X2_meant_3 : List sw_I := [sw_ld 0 5, sw_ld 2 3, sw_cv 24 m_J2_size 0, sw_ic 3 4 [true, true, true, true, true, false], sw_ld 2 1, sw_ld 2 3, sw_ld 0 5, sw_cv 24 m_J2_get 1, sw_ct [17], sw_gf 17 0, sw_ld 2 0, sw_ld 2 3, sw_ld 0 5, sw_cv 24 m_J2_get 1, sw_ct [17], sw_gf 17 1, sw_ld 2 1, sw_cv 1 m_X2_value 2, sw_ast 64, sw_inc 5 1, sw_goto 3 [true, true, true, true, true, true]]
def bb_X2_meant_4 : List sw_I := [sw_inc 4 1, sw_goto 2 [true, true, true, true, true, false]]
def bb_X2_meant_5 : List sw_I := [sw_inc 2 1, sw_goto 1 [true, true, true, false, false, false]]
def bb_X2_meant_6 : List sw_I := [sw_ld 2 1, sw_rv 2]
def b_X2_meant : sw_B := fun n => match n with
  | 0 => bb_X2_meant_0
  | 1 => bb_X2_meant_1
  | 2 => bb_X2_meant_2
  | 3 => bb_X2_meant_3
  | 4 => bb_X2_meant_4
  | 5 => bb_X2_meant_5
  | 6 => bb_X2_meant_6
  | _ => []
/-! SpillslotWorks$Program.value(I[I)I -/
def bb_X2_value_0 : List sw_I := [sw_ld 2 0, sw_ld 0 1, sw_cv 1 m_X2_at 1, sw_sta 3, sw_ld 2 3, sw_gs 0, sw_cv 15 m_X16_is 1, sw_iz 0 1 [true, false, true, true, false, false], sw_ld 2 3, sw_gf 15 1, sw_rv 0]
def bb_X2_value_1 : List sw_I := [sw_ld 2 3, sw_gs 1, sw_cv 15 m_X16_is 1, sw_iz 0 2 [true, false, true, true, false, false], sw_ld 2 2, sw_ld 2 3, sw_gf 15 1, sw_ald 64, sw_rv 0]
def bb_X2_value_2 : List sw_I := [sw_ld 2 0, sw_ld 2 3, sw_gf 15 1, sw_ld 2 2, sw_cv 1 m_X2_value 2, sw_sti 4, sw_ld 2 0, sw_ld 2 3, sw_gf 15 2, sw_ld 2 2, sw_cv 1 m_X2_value 2, sw_sti 5, sw_ld 2 3, sw_gf 15 0, sw_cv 40 m_J8_ordinal 0, sw_sw [(2, 3, [false, false, false, false, true, true]), (3, 4, [false, false, false, false, true, true]), (4, 5, [false, false, false, false, true, true])] (6, [false, false, false, false, true, true])]
def bb_X2_value_3 : List sw_I := [sw_ld 0 4, sw_ld 0 5, sw_ii (fun x y => x + y), sw_rv 0]
def bb_X2_value_4 : List sw_I := [sw_ld 0 4, sw_ld 0 5, sw_ii (fun x y => x - y), sw_rv 0]
def bb_X2_value_5 : List sw_I := [sw_ld 0 4, sw_ld 0 5, sw_ii (fun x y => x * y), sw_rv 0]
def bb_X2_value_6 : List sw_I := [sw_ld 0 4, sw_ld 0 5, sw_cs m_X1_callOf 2, sw_rv 0]
def b_X2_value : sw_B := fun n => match n with
  | 0 => bb_X2_value_0
  | 1 => bb_X2_value_1
  | 2 => bb_X2_value_2
  | 3 => bb_X2_value_3
  | 4 => bb_X2_value_4
  | 5 => bb_X2_value_5
  | 6 => bb_X2_value_6
  | _ => []
/-! SpillslotWorksModel$Chooser.<init>(LSpillslotWorksModel$Program;LSpillslotWorksModel$Machine;Z)V -/
def bb_X20_init_0 : List sw_I := [sw_ld 2 0, sw_oin, sw_ld 2 0, sw_nw 24 [.int 0, .null, .int 0], sw_dup, sw_ci m_J2_init 0, sw_pf 19 2 2, sw_ld 2 0, sw_push (.int 80), sw_na 64, sw_pf 19 4 2, sw_ld 2 0, sw_push (.int 8), sw_pf 19 5 0, sw_ld 2 0, sw_ld 2 1, sw_pf 19 0 2, sw_ld 2 0, sw_ld 2 2, sw_pf 19 1 2, sw_ld 2 0, sw_ld 0 3, sw_pf 19 3 1, sw_push (.int 0), sw_sti 4, sw_goto 1 [true, true, false, false, true, false, false]]
def bb_X20_init_1 : List sw_I := [sw_ld 0 4, sw_push (.int 80), sw_ic 3 2 [true, true, false, false, false, false, false], sw_ld 2 0, sw_gf 19 4, sw_ld 0 4, sw_push (.int (-1)), sw_ast 64, sw_inc 4 1, sw_goto 1 [true, true, false, false, true, false, false]]
def bb_X20_init_2 : List sw_I := [sw_nw 24 [.int 0, .null, .int 0], sw_dup, sw_ci m_J2_init 0, sw_sta 4, sw_ld 2 0, sw_push (.int 0), sw_pf 19 6 0, sw_goto 3 [true, true, false, false, true, false, false]]
def bb_X20_init_3 : List sw_I := [sw_ld 2 0, sw_gf 19 6, sw_push (.int 4), sw_ic 3 6 [true, false, false, false, true, false, false], sw_ld 2 0, sw_gf 19 2, sw_cv 24 m_J2_clear 0, sw_ld 2 1, sw_gf 13 1, sw_ld 2 0, sw_gf 19 6, sw_cv 24 m_J2_get 1, sw_ct [24], sw_cv 24 m_J2_iterator 0, sw_sta 5, sw_goto 4 [true, true, false, false, true, true, false]]
def bb_X20_init_4 : List sw_I := [sw_ld 2 5, sw_cv 25 m_J23_hasNext 0, sw_iz 0 5 [true, true, false, false, true, false, false], sw_ld 2 5, sw_cv 25 m_J23_next 0, sw_ct [64], sw_sta 6, sw_ld 2 0, sw_ld 2 6, sw_push (.int 1), sw_ald 64, sw_ld 2 6, sw_push (.int 0), sw_ald 64, sw_cv 19 m_X20_state 2, sw_goto 4 [true, true, false, false, true, true, false]]
def bb_X20_init_5 : List sw_I := [sw_ld 2 4, sw_ld 2 0, sw_cv 19 m_X20_order 0, sw_cv 24 m_J2_addAll 1, sw_pop, sw_ld 2 0, sw_dup, sw_gf 19 6, sw_push (.int 1), sw_ii (fun x y => x + y), sw_pf 19 6 0, sw_goto 3 [true, true, false, false, true, false, false]]
def bb_X20_init_6 : List sw_I := [sw_ld 2 0, sw_gf 19 2, sw_cv 24 m_J2_clear 0, sw_ld 2 0, sw_ld 2 4, sw_cv 19 m_X20_enter 1, sw_ld 2 0, sw_gf 19 2, sw_ld 2 4, sw_cv 24 m_J2_addAll 1, sw_pop, sw_ret]
def b_X20_init : sw_B := fun n => match n with
  | 0 => bb_X20_init_0
  | 1 => bb_X20_init_1
  | 2 => bb_X20_init_2
  | 3 => bb_X20_init_3
  | 4 => bb_X20_init_4
  | 5 => bb_X20_init_5
  | 6 => bb_X20_init_6
  | _ => []
/-! SpillslotWorksModel$Chooser.state(II)V -/
def bb_X20_state_0 : List sw_I := [sw_ld 2 0, sw_gf 19 0, sw_ld 0 1, sw_cv 13 m_X14_of 1, sw_gf 16 0, sw_push (.int 1), sw_ic 1 1 [true, true, true], sw_ld 2 0, sw_push (.int 1), sw_ld 0 2, sw_push (.int 1), sw_na 64, sw_dup, sw_push (.int 0), sw_ld 2 0, sw_gf 19 0, sw_ld 0 1, sw_cv 13 m_X14_of 1, sw_gf 16 1, sw_ast 64, sw_push (.int 0), sw_cv 19 m_X20_add 4, sw_pop, sw_goto 2 [false, false, false]]
def bb_X20_state_1 : List sw_I := [sw_ld 2 0, sw_ld 0 1, sw_ld 0 2, sw_cv 19 m_X20_choose 2, sw_pop, sw_goto 2 [false, false, false]]
def bb_X20_state_2 : List sw_I := [sw_ret]
def b_X20_state : sw_B := fun n => match n with
  | 0 => bb_X20_state_0
  | 1 => bb_X20_state_1
  | 2 => bb_X20_state_2
  | _ => []
/-! SpillslotWorksModel$Chooser.add(II[II)I -/
def bb_X20_add_0 : List sw_I := [sw_ld 0 2, sw_push (.int (-1)), sw_ic 1 1 [true, true, true, true, true, false], sw_ld 2 0, sw_dup, sw_gf 19 5, sw_dx1, sw_push (.int 1), sw_ii (fun x y => x + y), sw_pf 19 5 0, sw_goto 2 [true, true, false, true, true, false]]
def bb_X20_add_1 : List sw_I := [sw_ld 0 2, sw_goto 2 [true, true, false, true, true, false]]
def bb_X20_add_2 : List sw_I := [sw_sti 5, sw_ld 2 0, sw_gf 19 2, sw_nw 20 [.int 0, .int 0, .null, .int 0, .int 0, .int 0], sw_dup, sw_ld 0 1, sw_ld 0 5, sw_ld 2 3, sw_ld 0 4, sw_ld 2 0, sw_gf 19 6, sw_ci m_X21_init 5, sw_cv 24 m_J2_add 1, sw_pop, sw_ld 0 5, sw_rv 0]
def b_X20_add : sw_B := fun n => match n with
  | 0 => bb_X20_add_0
  | 1 => bb_X20_add_1
  | 2 => bb_X20_add_2
  | _ => []
/-! SpillslotWorksModel$Chooser.choose(II)I -/
def bb_X20_choose_0 : List sw_I := [sw_ld 2 0, sw_gf 19 0, sw_ld 0 1, sw_cv 13 m_X14_of 1, sw_sta 3, sw_ld 2 3, sw_gf 16 0, sw_push (.int 1), sw_ic 1 1 [true, true, true, true, false, false, false], sw_ld 2 3, sw_gf 16 1, sw_rv 0]
def bb_X20_choose_1 : List sw_I := [sw_ld 2 3, sw_gf 16 0, sw_iz 1 2 [true, true, true, true, false, false, false], sw_ld 2 0, sw_push (.int 0), sw_ld 0 2, sw_push (.int 0), sw_na 64, sw_ld 2 3, sw_gf 16 1, sw_cv 19 m_X20_add 4, sw_rv 0]
def bb_X20_choose_2 : List sw_I := [sw_ld 2 0, sw_ld 0 1, sw_cv 19 m_X20_cost 1, sw_sti 4, sw_ld 2 0, sw_ld 2 3, sw_cv 19 m_X20_plain 1, sw_ld 0 4, sw_ic 1 5 [true, false, true, true, true, false, false], sw_ld 2 0, sw_ld 2 3, sw_gf 16 1, sw_push (.int (-1)), sw_cv 19 m_X20_choose 2, sw_sti 5, sw_ld 2 0, sw_ld 2 3, sw_gf 16 2, sw_push (.int (-1)), sw_cv 19 m_X20_choose 2, sw_sti 6, sw_ld 2 0, sw_ld 2 3, sw_gf 16 0, sw_push (.int 5), sw_ic 1 3 [false, false, true, true, false, true, true], sw_push (.int 9), sw_goto 4 [false, false, true, false, false, true, true]]
def bb_X20_choose_3 : List sw_I := [sw_ld 2 3, sw_gf 16 0, sw_goto 4 [false, false, true, false, false, true, true]]
def bb_X20_choose_4 : List sw_I := [sw_ld 0 2, sw_push (.int 2), sw_na 64, sw_dup, sw_push (.int 0), sw_ld 0 5, sw_ast 64, sw_dup, sw_push (.int 1), sw_ld 0 6, sw_ast 64, sw_push (.int 0), sw_cv 19 m_X20_add 4, sw_rv 0]
def bb_X20_choose_5 : List sw_I := [sw_ld 2 0, sw_ld 2 3, sw_cv 19 m_X20_smallCost 1, sw_ld 0 4, sw_ic 1 8 [true, false, true, true, false, false, false], sw_ld 2 0, sw_gf 19 0, sw_ld 2 0, sw_ld 2 3, sw_cv 19 m_X20_small 1, sw_cv 13 m_X14_of 1, sw_gf 16 1, sw_sti 5, sw_ld 2 0, sw_ld 2 0, sw_ld 2 3, sw_ld 2 0, sw_ld 2 3, sw_cv 19 m_X20_small 1, sw_cv 19 m_X20_other 2, sw_push (.int (-1)), sw_cv 19 m_X20_choose 2, sw_sti 6, sw_ld 2 0, sw_push (.int 5), sw_ld 0 2, sw_push (.int 1), sw_na 64, sw_dup, sw_push (.int 0), sw_ld 0 6, sw_ast 64, sw_ld 2 3, sw_gf 16 0, sw_push (.int 2), sw_ic 1 6 [false, false, false, false, false, true, false], sw_ld 0 5, sw_goto 7 [false, false, false, false, false, false, false]]
def bb_X20_choose_6 : List sw_I := [sw_ld 0 5, sw_in (fun x => -x), sw_goto 7 [false, false, false, false, false, false, false]]
def bb_X20_choose_7 : List sw_I := [sw_cv 19 m_X20_add 4, sw_rv 0]
def bb_X20_choose_8 : List sw_I := [sw_ld 2 0, sw_ld 2 3, sw_ld 0 2, sw_cv 19 m_X20_fuse 2, sw_rv 0]
def b_X20_choose : sw_B := fun n => match n with
  | 0 => bb_X20_choose_0
  | 1 => bb_X20_choose_1
  | 2 => bb_X20_choose_2
  | 3 => bb_X20_choose_3
  | 4 => bb_X20_choose_4
  | 5 => bb_X20_choose_5
  | 6 => bb_X20_choose_6
  | 7 => bb_X20_choose_7
  | 8 => bb_X20_choose_8
  | _ => []
/-! SpillslotWorksModel$Chooser.cost(I)I -/
def bb_X20_cost_0 : List sw_I := [sw_ld 2 0, sw_gf 19 4, sw_ld 0 1, sw_ald 64, sw_push (.int (-1)), sw_ic 1 1 [true, true], sw_ld 2 0, sw_gf 19 4, sw_ld 0 1, sw_ld 2 0, sw_ld 0 1, sw_cv 19 m_X20_costNow 1, sw_ast 64, sw_goto 1 [true, true]]
def bb_X20_cost_1 : List sw_I := [sw_ld 2 0, sw_gf 19 4, sw_ld 0 1, sw_ald 64, sw_rv 0]
def b_X20_cost : sw_B := fun n => match n with
  | 0 => bb_X20_cost_0
  | 1 => bb_X20_cost_1
  | _ => []
/-! SpillslotWorksModel$Chooser.costNow(I)I -/
def bb_X20_costNow_0 : List sw_I := [sw_ld 2 0, sw_gf 19 0, sw_ld 0 1, sw_cv 13 m_X14_of 1, sw_sta 2, sw_ld 2 2, sw_gf 16 0, sw_push (.int 1), sw_ic 1 1 [true, false, true], sw_push (.int 0), sw_rv 0]
def bb_X20_costNow_1 : List sw_I := [sw_ld 2 2, sw_gf 16 0, sw_iz 1 2 [true, false, true], sw_ld 2 0, sw_gf 19 0, sw_push (.int 0), sw_cv 13 m_X14_latency 1, sw_rv 0]
def bb_X20_costNow_2 : List sw_I := [sw_ld 2 0, sw_ld 2 2, sw_cv 19 m_X20_plain 1, sw_ld 2 0, sw_ld 2 2, sw_cv 19 m_X20_smallCost 1, sw_ld 2 0, sw_ld 2 2, sw_cv 19 m_X20_fusedCost 1, sw_mm sw_min, sw_mm sw_min, sw_rv 0]
def b_X20_costNow : sw_B := fun n => match n with
  | 0 => bb_X20_costNow_0
  | 1 => bb_X20_costNow_1
  | 2 => bb_X20_costNow_2
  | _ => []
/-! SpillslotWorksModel$Chooser.plain(LSpillslotWorksModel$Node;)I -/
def bb_X20_plain_0 : List sw_I := [sw_ld 2 0, sw_gf 19 0, sw_ld 2 1, sw_gf 16 0, sw_push (.int 5), sw_ic 1 1 [true, true], sw_push (.int 9), sw_goto 2 [true, true]]
def bb_X20_plain_1 : List sw_I := [sw_ld 2 1, sw_gf 16 0, sw_goto 2 [true, true]]
def bb_X20_plain_2 : List sw_I := [sw_cv 13 m_X14_latency 1, sw_ld 2 0, sw_ld 2 1, sw_gf 16 1, sw_cv 19 m_X20_cost 1, sw_ii (fun x y => x + y), sw_ld 2 0, sw_ld 2 1, sw_gf 16 2, sw_cv 19 m_X20_cost 1, sw_ii (fun x y => x + y), sw_rv 0]
def b_X20_plain : sw_B := fun n => match n with
  | 0 => bb_X20_plain_0
  | 1 => bb_X20_plain_1
  | 2 => bb_X20_plain_2
  | _ => []
/-! SpillslotWorksModel$Chooser.smallCost(LSpillslotWorksModel$Node;)I -/
def bb_X20_smallCost_0 : List sw_I := [sw_ld 2 0, sw_ld 2 1, sw_cv 19 m_X20_small 1, sw_push (.int (-1)), sw_ic 1 1 [true, true], sw_push (.int 2147483647), sw_goto 2 [false, false]]
def bb_X20_smallCost_1 : List sw_I := [sw_ld 2 0, sw_gf 19 0, sw_push (.int 5), sw_cv 13 m_X14_latency 1, sw_ld 2 0, sw_ld 2 0, sw_ld 2 1, sw_ld 2 0, sw_ld 2 1, sw_cv 19 m_X20_small 1, sw_cv 19 m_X20_other 2, sw_cv 19 m_X20_cost 1, sw_ii (fun x y => x + y), sw_goto 2 [false, false]]
def bb_X20_smallCost_2 : List sw_I := [sw_rv 0]
def b_X20_smallCost : sw_B := fun n => match n with
  | 0 => bb_X20_smallCost_0
  | 1 => bb_X20_smallCost_1
  | 2 => bb_X20_smallCost_2
  | _ => []
/-! SpillslotWorksModel$Chooser.small(LSpillslotWorksModel$Node;)I -/
def bb_X20_small_0 : List sw_I := [sw_ld 2 1, sw_gf 16 0, sw_push (.int 2), sw_ic 0 1 [true, true], sw_ld 2 1, sw_gf 16 0, sw_push (.int 3), sw_ic 0 1 [true, true], sw_push (.int (-1)), sw_rv 0]
def bb_X20_small_1 : List sw_I := [sw_ld 2 0, sw_ld 2 1, sw_gf 16 2, sw_cv 19 m_X20_isSmall 1, sw_iz 0 2 [true, true], sw_ld 2 1, sw_gf 16 2, sw_rv 0]
def bb_X20_small_2 : List sw_I := [sw_ld 2 1, sw_gf 16 0, sw_push (.int 2), sw_ic 1 3 [false, false], sw_ld 2 0, sw_ld 2 1, sw_gf 16 1, sw_cv 19 m_X20_isSmall 1, sw_iz 0 3 [false, false], sw_ld 2 1, sw_gf 16 1, sw_goto 4 [false, false]]
def bb_X20_small_3 : List sw_I := [sw_push (.int (-1)), sw_goto 4 [false, false]]
def bb_X20_small_4 : List sw_I := [sw_rv 0]
def b_X20_small : sw_B := fun n => match n with
  | 0 => bb_X20_small_0
  | 1 => bb_X20_small_1
  | 2 => bb_X20_small_2
  | 3 => bb_X20_small_3
  | 4 => bb_X20_small_4
  | _ => []
/-! SpillslotWorksModel$Chooser.isSmall(I)Z -/
def bb_X20_isSmall_0 : List sw_I := [sw_ld 2 0, sw_gf 19 0, sw_ld 0 1, sw_cv 13 m_X14_of 1, sw_gf 16 0, sw_iz 1 1 [false, false], sw_ld 2 0, sw_gf 19 0, sw_ld 0 1, sw_cv 13 m_X14_of 1, sw_gf 16 1, sw_ld 2 0, sw_gf 19 1, sw_gf 14 2, sw_in (fun x => -x), sw_ld 2 0, sw_gf 19 1, sw_gf 14 2, sw_cs m_X13_isIn 3, sw_iz 0 1 [false, false], sw_push (.int 1), sw_goto 2 [false, false]]
def bb_X20_isSmall_1 : List sw_I := [sw_push (.int 0), sw_goto 2 [false, false]]
def bb_X20_isSmall_2 : List sw_I := [sw_rv 1]
def b_X20_isSmall : sw_B := fun n => match n with
  | 0 => bb_X20_isSmall_0
  | 1 => bb_X20_isSmall_1
  | 2 => bb_X20_isSmall_2
  | _ => []
/-! SpillslotWorksModel$Chooser.other(LSpillslotWorksModel$Node;I)I -/
def bb_X20_other_0 : List sw_I := [sw_ld 2 1, sw_gf 16 1, sw_ld 0 2, sw_ic 1 1 [false, true, false], sw_ld 2 1, sw_gf 16 2, sw_goto 2 [false, false, false]]
def bb_X20_other_1 : List sw_I := [sw_ld 2 1, sw_gf 16 1, sw_goto 2 [false, false, false]]
def bb_X20_other_2 : List sw_I := [sw_rv 0]
def b_X20_other : sw_B := fun n => match n with
  | 0 => bb_X20_other_0
  | 1 => bb_X20_other_1
  | 2 => bb_X20_other_2
  | _ => []
/-! SpillslotWorksModel$Chooser.fusedCost(LSpillslotWorksModel$Node;)I -/
def bb_X20_fusedCost_0 : List sw_I := [sw_ld 2 0, sw_ld 2 1, sw_cv 19 m_X20_fused 1, sw_sti 2, sw_ld 0 2, sw_push (.int (-1)), sw_ic 1 1 [true, true, true], sw_push (.int 2147483647), sw_rv 0]
def bb_X20_fusedCost_1 : List sw_I := [sw_ld 2 0, sw_gf 19 0, sw_push (.int 6), sw_cv 13 m_X14_latency 1, sw_ld 2 0, sw_ld 2 0, sw_gf 19 0, sw_ld 0 2, sw_cv 13 m_X14_of 1, sw_gf 16 1, sw_cv 19 m_X20_cost 1, sw_ii (fun x y => x + y), sw_ld 2 0, sw_ld 2 0, sw_gf 19 0, sw_ld 0 2, sw_cv 13 m_X14_of 1, sw_gf 16 2, sw_cv 19 m_X20_cost 1, sw_ii (fun x y => x + y), sw_ld 2 0, sw_ld 2 0, sw_ld 2 1, sw_ld 0 2, sw_cv 19 m_X20_other 2, sw_cv 19 m_X20_cost 1, sw_ii (fun x y => x + y), sw_rv 0]
def b_X20_fusedCost : sw_B := fun n => match n with
  | 0 => bb_X20_fusedCost_0
  | 1 => bb_X20_fusedCost_1
  | _ => []
/-! SpillslotWorksModel$Chooser.fused(LSpillslotWorksModel$Node;)I -/
def bb_X20_fused_0 : List sw_I := [sw_ld 2 0, sw_gf 19 1, sw_gf 14 3, sw_iz 0 1 [false, false], sw_ld 2 1, sw_gf 16 0, sw_push (.int 2), sw_ic 0 2 [true, true], sw_goto 1 [false, false]]
def bb_X20_fused_1 : List sw_I := [sw_push (.int (-1)), sw_rv 0]
def bb_X20_fused_2 : List sw_I := [sw_ld 2 0, sw_gf 19 0, sw_ld 2 1, sw_gf 16 1, sw_cv 13 m_X14_of 1, sw_gf 16 0, sw_push (.int 4), sw_ic 1 3 [true, true], sw_ld 2 1, sw_gf 16 1, sw_rv 0]
def bb_X20_fused_3 : List sw_I := [sw_ld 2 0, sw_gf 19 0, sw_ld 2 1, sw_gf 16 2, sw_cv 13 m_X14_of 1, sw_gf 16 0, sw_push (.int 4), sw_ic 1 4 [false, false], sw_ld 2 1, sw_gf 16 2, sw_goto 5 [false, false]]
def bb_X20_fused_4 : List sw_I := [sw_push (.int (-1)), sw_goto 5 [false, false]]
def bb_X20_fused_5 : List sw_I := [sw_rv 0]
def b_X20_fused : sw_B := fun n => match n with
  | 0 => bb_X20_fused_0
  | 1 => bb_X20_fused_1
  | 2 => bb_X20_fused_2
  | 3 => bb_X20_fused_3
  | 4 => bb_X20_fused_4
  | 5 => bb_X20_fused_5
  | _ => []
/-! SpillslotWorksModel$Chooser.fuse(LSpillslotWorksModel$Node;I)I -/
def bb_X20_fuse_0 : List sw_I := [sw_ld 2 0, sw_ld 2 1, sw_cv 19 m_X20_fused 1, sw_sti 3, sw_ld 0 3, sw_ld 2 1, sw_gf 16 2, sw_ic 1 1 [true, true, true, true, false, false, false], sw_ld 2 0, sw_ld 2 1, sw_gf 16 1, sw_push (.int (-1)), sw_cv 19 m_X20_choose 2, sw_goto 2 [true, true, true, true, false, false, false]]
def bb_X20_fuse_1 : List sw_I := [sw_push (.int (-1)), sw_goto 2 [true, true, true, true, false, false, false]]
def bb_X20_fuse_2 : List sw_I := [sw_sti 4, sw_ld 2 0, sw_ld 2 0, sw_gf 19 0, sw_ld 0 3, sw_cv 13 m_X14_of 1, sw_gf 16 1, sw_push (.int (-1)), sw_cv 19 m_X20_choose 2, sw_sti 5, sw_ld 2 0, sw_ld 2 0, sw_gf 19 0, sw_ld 0 3, sw_cv 13 m_X14_of 1, sw_gf 16 2, sw_push (.int (-1)), sw_cv 19 m_X20_choose 2, sw_sti 6, sw_ld 0 3, sw_ld 2 1, sw_gf 16 1, sw_ic 1 3 [true, false, true, false, true, true, true], sw_ld 2 0, sw_ld 2 1, sw_gf 16 2, sw_push (.int (-1)), sw_cv 19 m_X20_choose 2, sw_sti 4, sw_goto 3 [true, false, true, false, true, true, true]]
def bb_X20_fuse_3 : List sw_I := [sw_ld 2 0, sw_push (.int 6), sw_ld 0 2, sw_push (.int 3), sw_na 64, sw_dup, sw_push (.int 0), sw_ld 0 5, sw_ast 64, sw_dup, sw_push (.int 1), sw_ld 0 6, sw_ast 64, sw_dup, sw_push (.int 2), sw_ld 0 4, sw_ast 64, sw_push (.int 0), sw_cv 19 m_X20_add 4, sw_rv 0]
def b_X20_fuse : sw_B := fun n => match n with
  | 0 => bb_X20_fuse_0
  | 1 => bb_X20_fuse_1
  | 2 => bb_X20_fuse_2
  | 3 => bb_X20_fuse_3
  | _ => []
/-! SpillslotWorksModel$Chooser.order()Ljava/util/ArrayList; -/
def bb_X20_order_0 : List sw_I := [sw_ld 2 0, sw_gf 19 2, sw_cv 24 m_J2_size 0, sw_push (.int 1), sw_ii (fun x y => x - y), sw_sti 1, sw_goto 1 [true, true, false, false, false]]
def bb_X20_order_1 : List sw_I := [sw_ld 0 1, sw_iz 2 5 [true, false, false, false, false], sw_ld 2 0, sw_gf 19 2, sw_ld 0 1, sw_cv 24 m_J2_get 1, sw_ct [20], sw_sta 2, sw_push (.int 0), sw_sti 3, sw_ld 0 1, sw_push (.int 1), sw_ii (fun x y => x + y), sw_sti 4, sw_goto 2 [true, true, true, true, true]]
def bb_X20_order_2 : List sw_I := [sw_ld 0 4, sw_ld 2 0, sw_gf 19 2, sw_cv 24 m_J2_size 0, sw_ic 3 4 [true, true, true, true, false], sw_ld 2 0, sw_gf 19 2, sw_ld 0 4, sw_cv 24 m_J2_get 1, sw_ct [20], sw_ld 2 2, sw_cv 20 m_X21_needs 1, sw_iz 0 3 [true, true, true, true, true], sw_ld 0 3, sw_ld 2 0, sw_gf 19 2, sw_ld 0 4, sw_cv 24 m_J2_get 1, sw_ct [20], sw_gf 20 5, sw_mm sw_max, sw_sti 3, sw_goto 3 [true, true, true, true, true]]
def bb_X20_order_3 : List sw_I := [sw_inc 4 1, sw_goto 2 [true, true, true, true, true]]
def bb_X20_order_4 : List sw_I := [sw_ld 2 2, sw_ld 2 0, sw_gf 19 0, sw_ld 2 2, sw_gf 20 0, sw_cv 13 m_X14_latency 1, sw_ld 0 3, sw_ii (fun x y => x + y), sw_pf 20 5 0, sw_inc 1 (-1), sw_goto 1 [true, true, false, false, false]]
def bb_X20_order_5 : List sw_I := [sw_nw 24 [.int 0, .null, .int 0], sw_dup, sw_ci m_J2_init 0, sw_sta 1, sw_ld 2 0, sw_gf 19 3, sw_iz 1 6 [true, true, false, false, false], sw_ld 2 1, sw_ld 2 0, sw_gf 19 2, sw_cv 24 m_J2_addAll 1, sw_pop, sw_ld 2 1, sw_rv 2]
def bb_X20_order_6 : List sw_I := [sw_ld 2 1, sw_cv 24 m_J2_size 0, sw_ld 2 0, sw_gf 19 2, sw_cv 24 m_J2_size 0, sw_ic 3 11 [false, true, false, false, false], sw_push .null, sw_sta 2, sw_ld 2 0, sw_gf 19 2, sw_cv 24 m_J2_iterator 0, sw_sta 3, sw_goto 7 [true, true, true, true, false]]
def bb_X20_order_7 : List sw_I := [sw_ld 2 3, sw_cv 25 m_J23_hasNext 0, sw_iz 0 10 [true, true, true, false, false], sw_ld 2 3, sw_cv 25 m_J23_next 0, sw_ct [20], sw_sta 4, sw_ld 2 1, sw_ld 2 4, sw_cv 24 m_J2_contains 1, sw_iz 1 9 [true, true, true, true, false], sw_ld 2 0, sw_ld 2 4, sw_ld 2 1, sw_cv 19 m_X20_isReady 2, sw_iz 0 9 [true, true, true, true, false], sw_ld 2 2, sw_inl true 8 [true, true, false, true, true], sw_ld 2 4, sw_gf 20 5, sw_ld 2 2, sw_gf 20 5, sw_ic 5 9 [true, true, true, true, false], sw_goto 8 [true, true, false, true, true]]
def bb_X20_order_8 : List sw_I := [sw_ld 2 4, sw_sta 2, sw_goto 9 [true, true, true, true, false]]
def bb_X20_order_9 : List sw_I := [sw_goto 7 [true, true, true, true, false]]
def bb_X20_order_10 : List sw_I := [sw_ld 2 1, sw_ld 2 2, sw_cv 24 m_J2_add 1, sw_pop, sw_goto 6 [true, true, false, false, false]]
def bb_X20_order_11 : List sw_I := [sw_ld 2 1, sw_rv 2]
def b_X20_order : sw_B := fun n => match n with
  | 0 => bb_X20_order_0
  | 1 => bb_X20_order_1
  | 2 => bb_X20_order_2
  | 3 => bb_X20_order_3
  | 4 => bb_X20_order_4
  | 5 => bb_X20_order_5
  | 6 => bb_X20_order_6
  | 7 => bb_X20_order_7
  | 8 => bb_X20_order_8
  | 9 => bb_X20_order_9
  | 10 => bb_X20_order_10
  | 11 => bb_X20_order_11
  | _ => []
/-! SpillslotWorksModel$Chooser.isReady(LSpillslotWorksModel$Op;Ljava/util/ArrayList;)Z -/
def bb_X20_isReady_0 : List sw_I := [sw_ld 2 0, sw_gf 19 2, sw_cv 24 m_J2_iterator 0, sw_sta 3, sw_goto 1 [false, true, true, true, false]]
def bb_X20_isReady_1 : List sw_I := [sw_ld 2 3, sw_cv 25 m_J23_hasNext 0, sw_iz 0 4 [false, false, false, false, false], sw_ld 2 3, sw_cv 25 m_J23_next 0, sw_ct [20], sw_sta 4, sw_ld 2 4, sw_ld 2 1, sw_iac false 2 [false, true, true, true, true], sw_push (.int 1), sw_rv 1]
def bb_X20_isReady_2 : List sw_I := [sw_ld 2 1, sw_ld 2 4, sw_cv 20 m_X21_needs 1, sw_iz 0 3 [false, true, true, true, false], sw_ld 2 2, sw_ld 2 4, sw_cv 24 m_J2_contains 1, sw_iz 1 3 [false, true, true, true, false], sw_push (.int 0), sw_rv 1]
def bb_X20_isReady_3 : List sw_I := [sw_goto 1 [false, true, true, true, false]]
def bb_X20_isReady_4 : List sw_I := [sw_push (.int 1), sw_rv 1]
def b_X20_isReady : sw_B := fun n => match n with
  | 0 => bb_X20_isReady_0
  | 1 => bb_X20_isReady_1
  | 2 => bb_X20_isReady_2
  | 3 => bb_X20_isReady_3
  | 4 => bb_X20_isReady_4
  | _ => []
/-! SpillslotWorksModel$Chooser.enter(Ljava/util/ArrayList;)V -/
def bb_X20_enter_0 : List sw_I := [sw_push (.int 8), sw_na 65, sw_sta 2, sw_push (.int 8), sw_na 65, sw_sta 3, sw_ld 2 0, sw_gf 19 0, sw_gf 13 1, sw_cv 24 m_J2_iterator 0, sw_sta 4, sw_goto 1 [true, false, true, true, true, false, false, false]]
def bb_X20_enter_1 : List sw_I := [sw_ld 2 4, sw_cv 25 m_J23_hasNext 0, sw_iz 0 4 [true, false, true, true, false, false, false, false], sw_ld 2 4, sw_cv 25 m_J23_next 0, sw_ct [24], sw_sta 5, sw_ld 2 5, sw_cv 24 m_J2_iterator 0, sw_sta 6, sw_goto 2 [true, false, true, true, true, false, true, false]]
def bb_X20_enter_2 : List sw_I := [sw_ld 2 6, sw_cv 25 m_J23_hasNext 0, sw_iz 0 3 [true, false, true, true, true, false, false, false], sw_ld 2 6, sw_cv 25 m_J23_next 0, sw_ct [64], sw_sta 7, sw_ld 2 0, sw_ld 2 7, sw_push (.int 1), sw_ald 64, sw_ld 2 2, sw_ld 2 3, sw_cv 19 m_X20_look 3, sw_ld 2 2, sw_ld 2 7, sw_push (.int 0), sw_ald 64, sw_push (.int 1), sw_ast 65, sw_goto 2 [true, false, true, true, true, false, true, false]]
def bb_X20_enter_3 : List sw_I := [sw_goto 1 [true, false, true, true, true, false, false, false]]
def bb_X20_enter_4 : List sw_I := [sw_push (.int 0), sw_sti 4, sw_goto 5 [true, false, true, true, true, false, false, false]]
def bb_X20_enter_5 : List sw_I := [sw_ld 0 4, sw_push (.int 8), sw_ic 3 8 [false, false, false, false, false, false, false, false], sw_ld 2 3, sw_ld 0 4, sw_ald 65, sw_iz 1 6 [true, false, true, true, true, false, false, false], sw_ld 2 2, sw_ld 0 4, sw_ald 65, sw_iz 1 7 [true, false, true, true, true, false, false, false], sw_ld 2 0, sw_gf 19 0, sw_gf 13 4, sw_ld 0 4, sw_cs m_X13_has 2, sw_iz 0 7 [true, false, true, true, true, false, false, false], sw_goto 6 [true, false, true, true, true, false, false, false]]
def bb_X20_enter_6 : List sw_I := [sw_ld 2 0, sw_gf 19 2, sw_nw 20 [.int 0, .int 0, .null, .int 0, .int 0, .int 0], sw_dup, sw_push (.int 0), sw_ld 0 4, sw_push (.int 0), sw_na 64, sw_push (.int 0), sw_push (.int (-1)), sw_ci m_X21_init 5, sw_cv 24 m_J2_add 1, sw_pop, sw_goto 7 [true, false, true, true, true, false, false, false]]
def bb_X20_enter_7 : List sw_I := [sw_inc 4 1, sw_goto 5 [true, false, true, true, true, false, false, false]]
def bb_X20_enter_8 : List sw_I := [sw_ret]
def b_X20_enter : sw_B := fun n => match n with
  | 0 => bb_X20_enter_0
  | 1 => bb_X20_enter_1
  | 2 => bb_X20_enter_2
  | 3 => bb_X20_enter_3
  | 4 => bb_X20_enter_4
  | 5 => bb_X20_enter_5
  | 6 => bb_X20_enter_6
  | 7 => bb_X20_enter_7
  | 8 => bb_X20_enter_8
  | _ => []
/-! SpillslotWorksModel$Chooser.look(I[Z[Z)V -/
def bb_X20_look_0 : List sw_I := [sw_ld 2 0, sw_gf 19 0, sw_ld 0 1, sw_cv 13 m_X14_of 1, sw_sta 4, sw_ld 2 4, sw_gf 16 0, sw_push (.int 1), sw_ic 1 1 [true, false, true, true, true], sw_ld 2 2, sw_ld 2 4, sw_gf 16 1, sw_ald 65, sw_iz 1 1 [true, false, true, true, true], sw_ld 2 3, sw_ld 2 4, sw_gf 16 1, sw_push (.int 1), sw_ast 65, sw_goto 1 [true, false, true, true, true]]
def bb_X20_look_1 : List sw_I := [sw_ld 2 4, sw_cv 16 m_X17_isOfTwo 0, sw_iz 1 2 [true, false, true, true, true], sw_ret]
def bb_X20_look_2 : List sw_I := [sw_ld 2 0, sw_ld 2 4, sw_gf 16 1, sw_ld 2 2, sw_ld 2 3, sw_cv 19 m_X20_look 3, sw_ld 2 0, sw_ld 2 4, sw_gf 16 2, sw_ld 2 2, sw_ld 2 3, sw_cv 19 m_X20_look 3, sw_ret]
def b_X20_look : sw_B := fun n => match n with
  | 0 => bb_X20_look_0
  | 1 => bb_X20_look_1
  | 2 => bb_X20_look_2
  | _ => []
/-! SpillslotWorksModel$Op.<init>(II[III)V -/
def bb_X21_init_0 : List sw_I := [sw_ld 2 0, sw_oin, sw_ld 2 0, sw_ld 0 1, sw_pf 20 0 0, sw_ld 2 0, sw_ld 0 2, sw_pf 20 1 0, sw_ld 2 0, sw_ld 2 3, sw_pf 20 2 2, sw_ld 2 0, sw_ld 0 4, sw_pf 20 3 0, sw_ld 2 0, sw_ld 0 5, sw_pf 20 4 0, sw_ret]
def b_X21_init : sw_B := fun n => match n with
  | 0 => bb_X21_init_0
  | _ => []
/-! SpillslotWorksModel$Op.needs(LSpillslotWorksModel$Op;)Z -/
def bb_X21_needs_0 : List sw_I := [sw_ld 2 0, sw_ld 2 1, sw_gf 20 1, sw_cv 20 m_X21_reads 1, sw_iz 1 1 [false, false], sw_ld 2 1, sw_ld 2 0, sw_gf 20 1, sw_cv 20 m_X21_reads 1, sw_iz 1 1 [false, false], sw_ld 2 0, sw_gf 20 1, sw_ld 2 1, sw_gf 20 1, sw_ic 0 1 [false, false], sw_ld 2 0, sw_gf 20 0, sw_push (.int 9), sw_ic 1 2 [false, false], sw_ld 2 1, sw_gf 20 0, sw_push (.int 9), sw_ic 1 2 [false, false], sw_goto 1 [false, false]]
def bb_X21_needs_1 : List sw_I := [sw_push (.int 1), sw_goto 3 [false, false]]
def bb_X21_needs_2 : List sw_I := [sw_push (.int 0), sw_goto 3 [false, false]]
def bb_X21_needs_3 : List sw_I := [sw_rv 1]
def b_X21_needs : sw_B := fun n => match n with
  | 0 => bb_X21_needs_0
  | 1 => bb_X21_needs_1
  | 2 => bb_X21_needs_2
  | 3 => bb_X21_needs_3
  | _ => []
/-! SpillslotWorksModel$Op.reads(I)Z -/
def bb_X21_reads_0 : List sw_I := [sw_ld 2 0, sw_gf 20 2, sw_sta 2, sw_ld 2 2, sw_al, sw_sti 3, sw_push (.int 0), sw_sti 4, sw_goto 1 [false, true, true, true, true, false]]
def bb_X21_reads_1 : List sw_I := [sw_ld 0 4, sw_ld 0 3, sw_ic 3 3 [false, false, false, false, false, false], sw_ld 2 2, sw_ld 0 4, sw_ald 64, sw_sti 5, sw_ld 0 5, sw_ld 0 1, sw_ic 1 2 [false, true, true, true, true, false], sw_push (.int 1), sw_rv 1]
def bb_X21_reads_2 : List sw_I := [sw_inc 4 1, sw_goto 1 [false, true, true, true, true, false]]
def bb_X21_reads_3 : List sw_I := [sw_push (.int 0), sw_rv 1]
def b_X21_reads : sw_B := fun n => match n with
  | 0 => bb_X21_reads_0
  | 1 => bb_X21_reads_1
  | 2 => bb_X21_reads_2
  | 3 => bb_X21_reads_3
  | _ => []
/-! SpillslotWorksModel$Life.<init>(I)V -/
def bb_X22_init_0 : List sw_I := [sw_ld 2 0, sw_oin, sw_ld 2 0, sw_push (.int (-1)), sw_pf 21 1 0, sw_ld 2 0, sw_push (.int (-1)), sw_pf 21 6 0, sw_ld 2 0, sw_push (.int (-1)), sw_pf 21 7 0, sw_ld 2 0, sw_push (.int (-1)), sw_pf 21 10 0, sw_ld 2 0, sw_ld 0 1, sw_pf 21 0 0, sw_ret]
def b_X22_init : sw_B := fun n => match n with
  | 0 => bb_X22_init_0
  | _ => []
/-! SpillslotWorksModel$Life.isIn()Z -/
def bb_X22_isIn_0 : List sw_I := [sw_ld 2 0, sw_gf 21 1, sw_push (.int (-1)), sw_ic 0 1 [false], sw_push (.int 1), sw_goto 2 [false]]
def bb_X22_isIn_1 : List sw_I := [sw_push (.int 0), sw_goto 2 [false]]
def bb_X22_isIn_2 : List sw_I := [sw_rv 1]
def b_X22_isIn : sw_B := fun n => match n with
  | 0 => bb_X22_isIn_0
  | 1 => bb_X22_isIn_1
  | 2 => bb_X22_isIn_2
  | _ => []
/-! SpillslotWorksModel$Life.goesOver(I)Z -/
def bb_X22_goesOver_0 : List sw_I := [sw_ld 2 0, sw_gf 21 1, sw_ld 0 1, sw_ic 3 1 [false, false], sw_ld 0 1, sw_ld 2 0, sw_gf 21 2, sw_ic 3 1 [false, false], sw_push (.int 1), sw_goto 2 [false, false]]
def bb_X22_goesOver_1 : List sw_I := [sw_push (.int 0), sw_goto 2 [false, false]]
def bb_X22_goesOver_2 : List sw_I := [sw_rv 1]
def b_X22_goesOver : sw_B := fun n => match n with
  | 0 => bb_X22_goesOver_0
  | 1 => bb_X22_goesOver_1
  | 2 => bb_X22_goesOver_2
  | _ => []
/-! SpillslotWorksModel$Life.isSpilled()Z -/
def bb_X22_isSpilled_0 : List sw_I := [sw_ld 2 0, sw_cv 21 m_X22_isIn 0, sw_iz 0 1 [false], sw_ld 2 0, sw_gf 21 6, sw_push (.int (-1)), sw_ic 1 1 [false], sw_push (.int 1), sw_goto 2 [false]]
def bb_X22_isSpilled_1 : List sw_I := [sw_push (.int 0), sw_goto 2 [false]]
def bb_X22_isSpilled_2 : List sw_I := [sw_rv 1]
def b_X22_isSpilled : sw_B := fun n => match n with
  | 0 => bb_X22_isSpilled_0
  | 1 => bb_X22_isSpilled_1
  | 2 => bb_X22_isSpilled_2
  | _ => []
/-! SpillslotWorksModel$Life.meets(LSpillslotWorksModel$Life;)Z -/
def bb_X22_meets_0 : List sw_I := [sw_ld 2 0, sw_gf 21 1, sw_ld 2 1, sw_gf 21 2, sw_ic 4 1 [false, false], sw_ld 2 1, sw_gf 21 1, sw_ld 2 0, sw_gf 21 2, sw_ic 4 1 [false, false], sw_push (.int 1), sw_goto 2 [false, false]]
def bb_X22_meets_1 : List sw_I := [sw_push (.int 0), sw_goto 2 [false, false]]
def bb_X22_meets_2 : List sw_I := [sw_rv 1]
def b_X22_meets : sw_B := fun n => match n with
  | 0 => bb_X22_meets_0
  | 1 => bb_X22_meets_1
  | 2 => bb_X22_meets_2
  | _ => []
/-! SpillslotWorksModel$Plan$Layer.<init>(LSpillslotWorksModel$Plan;I)V -/
def bb_X23_init_0 : List sw_I := [sw_ld 2 0, sw_ld 2 1, sw_pf 22 2 2, sw_ld 2 0, sw_oin, sw_ld 2 0, sw_ld 0 2, sw_pf 22 0 0, sw_ld 2 0, sw_ld 2 1, sw_gf 18 2, sw_ld 0 2, sw_cv 24 m_J2_get 1, sw_ct [20], sw_pf 22 1 2, sw_ret]
def b_X23_init : sw_B := fun n => match n with
  | 0 => bb_X23_init_0
  | _ => []
/-! SpillslotWorksModel$Plan$Layer.lay()V -/
def bb_X23_lay_0 : List sw_I := [sw_ld 2 0, sw_gf 22 2, sw_gf 18 3, sw_ld 2 0, sw_gf 22 1, sw_gf 20 1, sw_ald 68, sw_sta 1, sw_ld 2 0, sw_gf 22 1, sw_gf 20 0, sw_push (.int 9), sw_ic 1 1 [true, true, false, false, false, false], sw_ld 2 0, sw_ld 2 1, sw_cv 22 m_X23_layCall 1, sw_ret]
def bb_X23_lay_1 : List sw_I := [sw_ld 2 0, sw_gf 22 1, sw_gf 20 0, sw_iz 1 2 [true, true, false, false, false, false], sw_ld 2 1, sw_gf 21 6, sw_push (.int (-1)), sw_ic 1 2 [true, true, false, false, false, false], sw_ld 2 1, sw_gf 21 8, sw_iz 0 2 [true, true, false, false, false, false], sw_ret]
def bb_X23_lay_2 : List sw_I := [sw_ld 2 0, sw_gf 22 2, sw_gf 18 1, sw_cv 14 m_X15_scratch 0, sw_sti 2, sw_push (.int 3), sw_na 64, sw_sta 3, sw_push (.int 0), sw_sti 4, sw_goto 3 [true, true, true, true, true, false]]
def bb_X23_lay_3 : List sw_I := [sw_ld 0 4, sw_ld 2 0, sw_gf 22 1, sw_gf 20 2, sw_al, sw_ic 3 7 [true, true, true, true, false, false], sw_ld 2 0, sw_gf 22 2, sw_gf 18 3, sw_ld 2 0, sw_gf 22 1, sw_gf 20 2, sw_ld 0 4, sw_ald 64, sw_ald 68, sw_sta 5, sw_ld 2 3, sw_ld 0 4, sw_ld 2 5, sw_gf 21 6, sw_push (.int (-1)), sw_ic 1 4 [true, true, true, true, true, true], sw_ld 0 2, sw_ld 0 4, sw_ii (fun x y => x + y), sw_goto 5 [true, true, true, true, true, true]]
def bb_X23_lay_4 : List sw_I := [sw_ld 2 5, sw_gf 21 6, sw_goto 5 [true, true, true, true, true, true]]
def bb_X23_lay_5 : List sw_I := [sw_ast 64, sw_ld 2 5, sw_gf 21 6, sw_push (.int (-1)), sw_ic 1 6 [true, true, true, true, true, false], sw_ld 2 0, sw_ld 2 5, sw_ld 0 2, sw_ld 0 4, sw_ii (fun x y => x + y), sw_cv 22 m_X23_bring 2, sw_goto 6 [true, true, true, true, true, false]]
def bb_X23_lay_6 : List sw_I := [sw_inc 4 1, sw_goto 3 [true, true, true, true, true, false]]
def bb_X23_lay_7 : List sw_I := [sw_ld 2 1, sw_gf 21 6, sw_push (.int (-1)), sw_ic 1 8 [true, true, true, true, false, false], sw_ld 0 2, sw_goto 9 [true, true, true, true, false, false]]
def bb_X23_lay_8 : List sw_I := [sw_ld 2 1, sw_gf 21 6, sw_goto 9 [true, true, true, true, false, false]]
def bb_X23_lay_9 : List sw_I := [sw_sti 4, sw_ld 2 0, sw_gf 22 1, sw_gf 20 0, sw_iz 1 10 [true, true, true, true, true, false], sw_ld 2 0, sw_push (.int 0), sw_ld 0 4, sw_ld 2 0, sw_gf 22 1, sw_gf 20 3, sw_push (.int 0), sw_push (.int 0), sw_cv 22 m_X23_put 5, sw_goto 13 [true, true, true, false, false, false]]
def bb_X23_lay_10 : List sw_I := [sw_ld 2 0, sw_gf 22 1, sw_gf 20 0, sw_push (.int 1), sw_ic 1 11 [true, true, true, true, true, false], sw_ld 2 0, sw_push (.int 1), sw_ld 0 4, sw_ld 2 3, sw_push (.int 0), sw_ald 64, sw_push (.int 0), sw_push (.int 0), sw_cv 22 m_X23_put 5, sw_goto 13 [true, true, true, false, false, false]]
def bb_X23_lay_11 : List sw_I := [sw_ld 2 0, sw_gf 22 2, sw_gf 18 1, sw_gf 14 4, sw_iz 0 12 [true, true, true, true, true, false], sw_ld 2 0, sw_ld 0 4, sw_ld 2 3, sw_cv 22 m_X23_layTwo 2, sw_goto 13 [true, true, true, false, false, false]]
def bb_X23_lay_12 : List sw_I := [sw_ld 2 0, sw_ld 0 4, sw_ld 2 3, sw_push (.int 0), sw_ald 64, sw_ld 2 3, sw_push (.int 1), sw_ald 64, sw_ld 2 3, sw_push (.int 2), sw_ald 64, sw_cv 22 m_X23_layOp 4, sw_goto 13 [true, true, true, false, false, false]]
def bb_X23_lay_13 : List sw_I := [sw_ld 2 0, sw_ld 2 1, sw_ld 0 2, sw_cv 22 m_X23_store 2, sw_ret]
def b_X23_lay : sw_B := fun n => match n with
  | 0 => bb_X23_lay_0
  | 1 => bb_X23_lay_1
  | 2 => bb_X23_lay_2
  | 3 => bb_X23_lay_3
  | 4 => bb_X23_lay_4
  | 5 => bb_X23_lay_5
  | 6 => bb_X23_lay_6
  | 7 => bb_X23_lay_7
  | 8 => bb_X23_lay_8
  | 9 => bb_X23_lay_9
  | 10 => bb_X23_lay_10
  | 11 => bb_X23_lay_11
  | 12 => bb_X23_lay_12
  | 13 => bb_X23_lay_13
  | _ => []
/-! SpillslotWorksModel$Plan$Layer.layCall(LSpillslotWorksModel$Life;)V -/
def bb_X23_layCall_0 : List sw_I := [sw_ld 2 0, sw_gf 22 2, sw_gf 18 3, sw_ld 2 0, sw_gf 22 1, sw_gf 20 2, sw_push (.int 0), sw_ald 64, sw_ald 68, sw_sta 2, sw_ld 2 0, sw_gf 22 2, sw_gf 18 3, sw_ld 2 0, sw_gf 22 1, sw_gf 20 2, sw_push (.int 1), sw_ald 64, sw_ald 68, sw_sta 3, sw_ld 2 0, sw_gf 22 2, sw_gf 18 1, sw_cv 14 m_X15_scratch 0, sw_sti 4, sw_ld 2 2, sw_gf 21 6, sw_push (.int 1), sw_ic 1 1 [true, true, true, true, false], sw_ld 2 3, sw_gf 21 6, sw_iz 1 1 [true, true, true, true, false], sw_ld 2 0, sw_push (.int 1), sw_ld 0 4, sw_push (.int 0), sw_push (.int 0), sw_push (.int 0), sw_cv 22 m_X23_put 5, sw_ld 2 0, sw_push (.int 1), sw_push (.int 0), sw_push (.int 1), sw_push (.int 0), sw_push (.int 0), sw_cv 22 m_X23_put 5, sw_ld 2 0, sw_push (.int 1), sw_push (.int 1), sw_ld 0 4, sw_push (.int 0), sw_push (.int 0), sw_cv 22 m_X23_put 5, sw_goto 3 [true, true, false, false, false]]
def bb_X23_layCall_1 : List sw_I := [sw_ld 2 3, sw_gf 21 6, sw_iz 1 2 [true, true, true, true, false], sw_ld 2 0, sw_push (.int 1), sw_push (.int 1), sw_push (.int 0), sw_push (.int 0), sw_push (.int 0), sw_cv 22 m_X23_put 5, sw_ld 2 0, sw_ld 2 2, sw_push (.int 0), sw_cv 22 m_X23_bring 2, sw_goto 3 [true, true, false, false, false]]
def bb_X23_layCall_2 : List sw_I := [sw_ld 2 0, sw_ld 2 2, sw_push (.int 0), sw_cv 22 m_X23_bring 2, sw_ld 2 0, sw_ld 2 3, sw_push (.int 1), sw_cv 22 m_X23_bring 2, sw_goto 3 [true, true, false, false, false]]
def bb_X23_layCall_3 : List sw_I := [sw_ld 2 0, sw_push (.int 9), sw_push (.int 0), sw_push (.int 0), sw_push (.int 0), sw_push (.int 0), sw_cv 22 m_X23_put 5, sw_ld 2 1, sw_gf 21 6, sw_push (.int (-1)), sw_ic 0 4 [true, true, false, false, false], sw_ld 2 0, sw_push (.int 1), sw_ld 2 1, sw_gf 21 6, sw_push (.int 0), sw_push (.int 0), sw_push (.int 0), sw_cv 22 m_X23_put 5, sw_goto 4 [true, true, false, false, false]]
def bb_X23_layCall_4 : List sw_I := [sw_ld 2 0, sw_ld 2 1, sw_push (.int 0), sw_cv 22 m_X23_store 2, sw_ret]
def b_X23_layCall : sw_B := fun n => match n with
  | 0 => bb_X23_layCall_0
  | 1 => bb_X23_layCall_1
  | 2 => bb_X23_layCall_2
  | 3 => bb_X23_layCall_3
  | 4 => bb_X23_layCall_4
  | _ => []
/-! SpillslotWorksModel$Plan$Layer.put(IIIII)V -/
def bb_X23_put_0 : List sw_I := [sw_ld 0 1, sw_push (.int 1), sw_ic 1 1 [true, true, true, true, true, true], sw_ld 0 2, sw_ld 0 3, sw_ic 1 1 [true, true, true, true, true, true], sw_ret]
def bb_X23_put_1 : List sw_I := [sw_ld 2 0, sw_gf 22 2, sw_gf 18 7, sw_push (.int 6), sw_na 64, sw_dup, sw_push (.int 0), sw_ld 0 1, sw_ast 64, sw_dup, sw_push (.int 1), sw_ld 0 2, sw_ast 64, sw_dup, sw_push (.int 2), sw_ld 0 3, sw_ast 64, sw_dup, sw_push (.int 3), sw_ld 0 4, sw_ast 64, sw_dup, sw_push (.int 4), sw_ld 0 5, sw_ast 64, sw_dup, sw_push (.int 5), sw_ld 2 0, sw_gf 22 0, sw_ast 64, sw_cv 24 m_J2_add 1, sw_pop, sw_ret]
def b_X23_put : sw_B := fun n => match n with
  | 0 => bb_X23_put_0
  | 1 => bb_X23_put_1
  | _ => []
/-! SpillslotWorksModel$Plan$Layer.bring(LSpillslotWorksModel$Life;I)V -/
def bb_X23_bring_0 : List sw_I := [sw_ld 2 1, sw_gf 21 6, sw_push (.int (-1)), sw_ic 0 1 [true, true, true], sw_ld 2 0, sw_push (.int 1), sw_ld 0 2, sw_ld 2 1, sw_gf 21 6, sw_push (.int 0), sw_push (.int 0), sw_cv 22 m_X23_put 5, sw_goto 3 [false, false, false]]
def bb_X23_bring_1 : List sw_I := [sw_ld 2 1, sw_gf 21 8, sw_iz 0 2 [true, true, true], sw_ld 2 0, sw_push (.int 0), sw_ld 0 2, sw_ld 2 1, sw_gf 21 9, sw_push (.int 0), sw_push (.int 0), sw_cv 22 m_X23_put 5, sw_goto 3 [false, false, false]]
def bb_X23_bring_2 : List sw_I := [sw_ld 2 0, sw_push (.int 7), sw_ld 0 2, sw_ld 2 1, sw_gf 21 7, sw_push (.int 0), sw_push (.int 0), sw_cv 22 m_X23_put 5, sw_goto 3 [false, false, false]]
def bb_X23_bring_3 : List sw_I := [sw_ret]
def b_X23_bring : sw_B := fun n => match n with
  | 0 => bb_X23_bring_0
  | 1 => bb_X23_bring_1
  | 2 => bb_X23_bring_2
  | 3 => bb_X23_bring_3
  | _ => []
/-! SpillslotWorksModel$Plan$Layer.store(LSpillslotWorksModel$Life;I)V -/
def bb_X23_store_0 : List sw_I := [sw_ld 2 1, sw_gf 21 6, sw_push (.int (-1)), sw_ic 1 1 [false, false, false], sw_ld 2 0, sw_push (.int 8), sw_ld 0 2, sw_ld 2 1, sw_gf 21 7, sw_push (.int 0), sw_push (.int 0), sw_cv 22 m_X23_put 5, sw_goto 1 [false, false, false]]
def bb_X23_store_1 : List sw_I := [sw_ret]
def b_X23_store : sw_B := fun n => match n with
  | 0 => bb_X23_store_0
  | 1 => bb_X23_store_1
  | _ => []
/-! SpillslotWorksModel$Plan$Layer.layTwo(I[I)V -/
def bb_X23_layTwo_0 : List sw_I := [sw_ld 2 0, sw_gf 22 2, sw_gf 18 1, sw_cv 14 m_X15_scratch 0, sw_sti 3, sw_ld 2 0, sw_gf 22 1, sw_gf 20 0, sw_push (.int 5), sw_ic 0 1 [true, true, true, true, false, false], sw_ld 0 1, sw_ld 2 2, sw_push (.int 1), sw_ald 64, sw_ic 1 1 [true, true, true, true, false, false], sw_push (.int 1), sw_goto 2 [true, true, true, true, false, false]]
def bb_X23_layTwo_1 : List sw_I := [sw_push (.int 0), sw_goto 2 [true, true, true, true, false, false]]
def bb_X23_layTwo_2 : List sw_I := [sw_sti 4, sw_ld 2 0, sw_gf 22 1, sw_gf 20 0, sw_push (.int 6), sw_ic 1 3 [true, true, true, true, true, false], sw_ld 0 1, sw_ld 2 2, sw_push (.int 2), sw_ald 64, sw_ic 1 3 [true, true, true, true, true, false], sw_push (.int 1), sw_goto 4 [true, true, true, true, true, false]]
def bb_X23_layTwo_3 : List sw_I := [sw_push (.int 0), sw_goto 4 [true, true, true, true, true, false]]
def bb_X23_layTwo_4 : List sw_I := [sw_sti 5, sw_ld 0 1, sw_ld 2 2, sw_push (.int 0), sw_ald 64, sw_ic 1 5 [true, true, true, true, true, true], sw_ld 2 0, sw_ld 0 1, sw_ld 2 2, sw_push (.int 0), sw_ald 64, sw_ld 2 2, sw_push (.int 1), sw_ald 64, sw_ld 2 2, sw_push (.int 2), sw_ald 64, sw_cv 22 m_X23_layOp 4, sw_goto 10 [false, false, false, false, false, false]]
def bb_X23_layTwo_5 : List sw_I := [sw_ld 0 4, sw_iz 0 7 [true, true, true, true, true, true], sw_ld 2 0, sw_gf 22 1, sw_gf 20 0, sw_push (.int 2), sw_ic 0 6 [true, true, true, false, false, false], sw_ld 2 0, sw_gf 22 1, sw_gf 20 0, sw_push (.int 4), sw_ic 1 7 [true, true, true, true, true, true], sw_goto 6 [true, true, true, false, false, false]]
def bb_X23_layTwo_6 : List sw_I := [sw_ld 2 0, sw_ld 0 1, sw_ld 2 2, sw_push (.int 1), sw_ald 64, sw_ld 2 2, sw_push (.int 0), sw_ald 64, sw_push (.int 0), sw_cv 22 m_X23_layOp 4, sw_goto 10 [false, false, false, false, false, false]]
def bb_X23_layTwo_7 : List sw_I := [sw_ld 0 4, sw_iz 1 8 [true, true, true, true, false, false], sw_ld 0 5, sw_iz 0 9 [true, true, true, false, false, false], sw_goto 8 [true, true, true, true, false, false]]
def bb_X23_layTwo_8 : List sw_I := [sw_ld 2 0, sw_push (.int 1), sw_ld 0 3, sw_ld 2 2, sw_push (.int 0), sw_ald 64, sw_push (.int 0), sw_push (.int 0), sw_cv 22 m_X23_put 5, sw_ld 2 0, sw_ld 0 3, sw_ld 0 3, sw_ld 2 2, sw_push (.int 1), sw_ald 64, sw_ld 2 2, sw_push (.int 2), sw_ald 64, sw_cv 22 m_X23_layOp 4, sw_ld 2 0, sw_push (.int 1), sw_ld 0 1, sw_ld 0 3, sw_push (.int 0), sw_push (.int 0), sw_cv 22 m_X23_put 5, sw_goto 10 [false, false, false, false, false, false]]
def bb_X23_layTwo_9 : List sw_I := [sw_ld 2 0, sw_push (.int 1), sw_ld 0 1, sw_ld 2 2, sw_push (.int 0), sw_ald 64, sw_push (.int 0), sw_push (.int 0), sw_cv 22 m_X23_put 5, sw_ld 2 0, sw_ld 0 1, sw_ld 0 1, sw_ld 2 2, sw_push (.int 1), sw_ald 64, sw_ld 2 2, sw_push (.int 2), sw_ald 64, sw_cv 22 m_X23_layOp 4, sw_goto 10 [false, false, false, false, false, false]]
def bb_X23_layTwo_10 : List sw_I := [sw_ret]
def b_X23_layTwo : sw_B := fun n => match n with
  | 0 => bb_X23_layTwo_0
  | 1 => bb_X23_layTwo_1
  | 2 => bb_X23_layTwo_2
  | 3 => bb_X23_layTwo_3
  | 4 => bb_X23_layTwo_4
  | 5 => bb_X23_layTwo_5
  | 6 => bb_X23_layTwo_6
  | 7 => bb_X23_layTwo_7
  | 8 => bb_X23_layTwo_8
  | 9 => bb_X23_layTwo_9
  | 10 => bb_X23_layTwo_10
  | _ => []
/-! SpillslotWorksModel$Plan$Layer.layOp(IIII)V -/
def bb_X23_layOp_0 : List sw_I := [sw_ld 2 0, sw_gf 22 1, sw_gf 20 0, sw_push (.int 5), sw_ic 1 1 [true, true, true, true, true], sw_ld 2 0, sw_push (.int 5), sw_ld 0 1, sw_ld 0 2, sw_ld 2 0, sw_gf 22 1, sw_gf 20 3, sw_push (.int 0), sw_cv 22 m_X23_put 5, sw_goto 4 [false, false, false, false, false]]
def bb_X23_layOp_1 : List sw_I := [sw_ld 2 0, sw_ld 2 0, sw_gf 22 1, sw_gf 20 0, sw_ld 0 1, sw_ld 0 2, sw_ld 0 3, sw_ld 2 0, sw_gf 22 1, sw_gf 20 0, sw_push (.int 6), sw_ic 1 2 [false, false, false, false, false], sw_ld 0 4, sw_goto 3 [false, false, false, false, false]]
def bb_X23_layOp_2 : List sw_I := [sw_push (.int 0), sw_goto 3 [false, false, false, false, false]]
def bb_X23_layOp_3 : List sw_I := [sw_cv 22 m_X23_put 5, sw_goto 4 [false, false, false, false, false]]
def bb_X23_layOp_4 : List sw_I := [sw_ret]
def b_X23_layOp : sw_B := fun n => match n with
  | 0 => bb_X23_layOp_0
  | 1 => bb_X23_layOp_1
  | 2 => bb_X23_layOp_2
  | 3 => bb_X23_layOp_3
  | 4 => bb_X23_layOp_4
  | _ => []
/-! SpillslotWorksModel$Plan$Runner.<init>(LSpillslotWorksModel$Plan;)V -/
def bb_X24_init_0 : List sw_I := [sw_ld 2 0, sw_ld 2 1, sw_pf 23 3 2, sw_ld 2 0, sw_oin, sw_ld 2 0, sw_ld 2 0, sw_gf 23 3, sw_gf 18 1, sw_gf 14 0, sw_na 64, sw_pf 23 0 2, sw_ret]
def b_X24_init : sw_B := fun n => match n with
  | 0 => bb_X24_init_0
  | _ => []
/-! SpillslotWorksModel$Plan$Runner.go()V -/
def bb_X24_go_0 : List sw_I := [sw_ld 2 0, sw_gf 23 3, sw_ld 2 0, sw_gf 23 3, sw_gf 18 1, sw_gf 14 0, sw_na 64, sw_pf 18 11 2, sw_ld 2 0, sw_gf 23 3, sw_ld 2 0, sw_gf 23 3, sw_gf 18 6, sw_na 64, sw_pf 18 12 2, sw_ld 2 0, sw_gf 23 3, sw_ld 2 0, sw_gf 23 3, sw_gf 18 7, sw_cv 24 m_J2_size 0, sw_na 64, sw_pf 18 13 2, sw_push (.int 0), sw_sti 1, sw_goto 1 [true, true, false]]
def bb_X24_go_1 : List sw_I := [sw_ld 0 1, sw_ld 2 0, sw_gf 23 3, sw_gf 18 13, sw_al, sw_ic 3 2 [true, false, false], sw_ld 2 0, sw_gf 23 3, sw_gf 18 13, sw_ld 0 1, sw_push (.int (-1)), sw_ast 64, sw_inc 1 1, sw_goto 1 [true, true, false]]
def bb_X24_go_2 : List sw_I := [sw_ld 2 0, sw_push (.int (-1)), sw_cv 23 m_X24_pass 1, sw_push (.int 0), sw_sti 1, sw_goto 3 [true, true, false]]
def bb_X24_go_3 : List sw_I := [sw_ld 0 1, sw_push (.int 4), sw_ic 3 6 [true, false, false], sw_push (.int 0), sw_sti 2, sw_goto 4 [true, true, true]]
def bb_X24_go_4 : List sw_I := [sw_ld 0 2, sw_ld 2 0, sw_gf 23 3, sw_gf 18 0, sw_gf 13 2, sw_ld 0 1, sw_ald 64, sw_ic 3 5 [true, true, false], sw_ld 2 0, sw_ld 0 1, sw_cv 23 m_X24_pass 1, sw_inc 2 1, sw_goto 4 [true, true, true]]
def bb_X24_go_5 : List sw_I := [sw_inc 1 1, sw_goto 3 [true, true, false]]
def bb_X24_go_6 : List sw_I := [sw_ld 2 0, sw_gf 23 3, sw_ld 2 0, sw_gf 23 2, sw_pf 18 9 0, sw_ret]
def b_X24_go : sw_B := fun n => match n with
  | 0 => bb_X24_go_0
  | 1 => bb_X24_go_1
  | 2 => bb_X24_go_2
  | 3 => bb_X24_go_3
  | 4 => bb_X24_go_4
  | 5 => bb_X24_go_5
  | 6 => bb_X24_go_6
  | _ => []
/-! SpillslotWorksModel$Plan$Runner.pass(I)V -/
def bb_X24_pass_0 : List sw_I := [sw_push (.int 0), sw_sti 2, sw_goto 1 [true, true, true]]
def bb_X24_pass_1 : List sw_I := [sw_ld 0 2, sw_ld 2 0, sw_gf 23 3, sw_gf 18 7, sw_cv 24 m_J2_size 0, sw_ic 3 3 [false, false, false], sw_ld 2 0, sw_gf 23 3, sw_gf 18 2, sw_ld 2 0, sw_gf 23 3, sw_gf 18 7, sw_ld 0 2, sw_cv 24 m_J2_get 1, sw_ct [64], sw_push (.int 5), sw_ald 64, sw_cv 24 m_J2_get 1, sw_ct [20], sw_gf 20 4, sw_ld 0 1, sw_ic 1 2 [true, true, true], sw_ld 2 0, sw_ld 0 2, sw_ld 2 0, sw_gf 23 3, sw_gf 18 7, sw_ld 0 2, sw_cv 24 m_J2_get 1, sw_ct [64], sw_cv 23 m_X24_step 2, sw_goto 2 [true, true, true]]
def bb_X24_pass_2 : List sw_I := [sw_inc 2 1, sw_goto 1 [true, true, true]]
def bb_X24_pass_3 : List sw_I := [sw_ret]
def b_X24_pass : sw_B := fun n => match n with
  | 0 => bb_X24_pass_0
  | 1 => bb_X24_pass_1
  | 2 => bb_X24_pass_2
  | 3 => bb_X24_pass_3
  | _ => []
/-! SpillslotWorksModel$Plan$Runner.step(I[I)V -/
def bb_X24_step_0 : List sw_I := [sw_ld 2 0, sw_gf 23 1, sw_ld 2 0, sw_ld 2 2, sw_cv 23 m_X24_readyOf 1, sw_mm sw_max, sw_sti 3, sw_ld 2 0, sw_gf 23 3, sw_gf 18 13, sw_ld 0 1, sw_ald 64, sw_push (.int (-1)), sw_ic 1 1 [true, false, true, true], sw_ld 2 0, sw_gf 23 3, sw_gf 18 13, sw_ld 0 1, sw_ld 0 3, sw_ast 64, sw_goto 1 [true, false, true, true]]
def bb_X24_step_1 : List sw_I := [sw_ld 2 0, sw_gf 23 3, sw_dup, sw_gf 18 10, sw_ld 0 3, sw_ld 2 0, sw_gf 23 1, sw_ii (fun x y => x - y), sw_ii (fun x y => x + y), sw_pf 18 10 0, sw_ld 2 0, sw_ld 0 3, sw_push (.int 1), sw_ii (fun x y => x + y), sw_pf 23 1 0, sw_ld 2 0, sw_ld 0 3, sw_ld 2 0, sw_gf 23 3, sw_gf 18 0, sw_ld 2 2, sw_push (.int 0), sw_ald 64, sw_cv 13 m_X14_latency 1, sw_ii (fun x y => x + y), sw_pf 23 2 0, sw_ld 2 0, sw_gf 23 3, sw_dup, sw_gf 18 8, sw_push (.int 1), sw_ii (fun x y => x + y), sw_pf 18 8 0, sw_ld 2 0, sw_ld 2 2, sw_cv 23 m_X24_work 1, sw_ld 2 2, sw_push (.int 0), sw_ald 64, sw_push (.int 9), sw_ic 1 2 [true, false, true, false], sw_ld 2 0, sw_cv 23 m_X24_lose 0, sw_goto 3 [false, false, false, false]]
def bb_X24_step_2 : List sw_I := [sw_ld 2 2, sw_push (.int 0), sw_ald 64, sw_push (.int 8), sw_ic 0 3 [false, false, false, false], sw_ld 2 0, sw_gf 23 0, sw_ld 2 2, sw_push (.int 1), sw_ald 64, sw_ld 2 0, sw_gf 23 2, sw_ast 64, sw_goto 3 [false, false, false, false]]
def bb_X24_step_3 : List sw_I := [sw_ret]
def b_X24_step : sw_B := fun n => match n with
  | 0 => bb_X24_step_0
  | 1 => bb_X24_step_1
  | 2 => bb_X24_step_2
  | 3 => bb_X24_step_3
  | _ => []
/-! SpillslotWorksModel$Plan$Runner.readyOf([I)I -/
def bb_X24_readyOf_0 : List sw_I := [sw_ld 2 1, sw_push (.int 0), sw_ald 64, sw_sw [(0, 1, [false, false]), (1, 4, [true, true]), (2, 6, [true, true]), (3, 6, [true, true]), (4, 6, [true, true]), (5, 4, [true, true]), (6, 5, [true, true]), (7, 1, [false, false]), (8, 2, [true, true]), (9, 3, [true, false])] (6, [true, true])]
def bb_X24_readyOf_1 : List sw_I := [sw_push (.int 0), sw_rv 0]
def bb_X24_readyOf_2 : List sw_I := [sw_ld 2 0, sw_gf 23 0, sw_ld 2 1, sw_push (.int 1), sw_ald 64, sw_ald 64, sw_rv 0]
def bb_X24_readyOf_3 : List sw_I := [sw_ld 2 0, sw_gf 23 0, sw_push (.int 0), sw_ald 64, sw_ld 2 0, sw_gf 23 0, sw_push (.int 1), sw_ald 64, sw_mm sw_max, sw_rv 0]
def bb_X24_readyOf_4 : List sw_I := [sw_ld 2 0, sw_gf 23 0, sw_ld 2 1, sw_push (.int 2), sw_ald 64, sw_ald 64, sw_rv 0]
def bb_X24_readyOf_5 : List sw_I := [sw_ld 2 0, sw_gf 23 0, sw_ld 2 1, sw_push (.int 2), sw_ald 64, sw_ald 64, sw_ld 2 0, sw_gf 23 0, sw_ld 2 1, sw_push (.int 3), sw_ald 64, sw_ald 64, sw_ld 2 0, sw_gf 23 0, sw_ld 2 1, sw_push (.int 4), sw_ald 64, sw_ald 64, sw_mm sw_max, sw_mm sw_max, sw_rv 0]
def bb_X24_readyOf_6 : List sw_I := [sw_ld 2 0, sw_gf 23 0, sw_ld 2 1, sw_push (.int 2), sw_ald 64, sw_ald 64, sw_ld 2 0, sw_gf 23 0, sw_ld 2 1, sw_push (.int 3), sw_ald 64, sw_ald 64, sw_mm sw_max, sw_rv 0]
def b_X24_readyOf : sw_B := fun n => match n with
  | 0 => bb_X24_readyOf_0
  | 1 => bb_X24_readyOf_1
  | 2 => bb_X24_readyOf_2
  | 3 => bb_X24_readyOf_3
  | 4 => bb_X24_readyOf_4
  | 5 => bb_X24_readyOf_5
  | 6 => bb_X24_readyOf_6
  | _ => []
/-! SpillslotWorksModel$Plan$Runner.work([I)V -/
def bb_X24_work_0 : List sw_I := [sw_ld 2 0, sw_gf 23 3, sw_gf 18 11, sw_sta 2, sw_ld 2 1, sw_push (.int 0), sw_ald 64, sw_sw [(0, 1, [false, true, true]), (1, 2, [false, true, true]), (2, 3, [false, true, true]), (3, 4, [false, true, true]), (4, 5, [false, true, true]), (5, 6, [false, true, true]), (6, 7, [false, true, true]), (7, 8, [true, true, true]), (8, 9, [true, true, true])] (10, [false, false, true])]
def bb_X24_work_1 : List sw_I := [sw_ld 2 2, sw_ld 2 1, sw_push (.int 1), sw_ald 64, sw_ld 2 1, sw_push (.int 2), sw_ald 64, sw_ast 64, sw_goto 11 [false, false, false]]
def bb_X24_work_2 : List sw_I := [sw_ld 2 2, sw_ld 2 1, sw_push (.int 1), sw_ald 64, sw_ld 2 2, sw_ld 2 1, sw_push (.int 2), sw_ald 64, sw_ald 64, sw_ast 64, sw_goto 11 [false, false, false]]
def bb_X24_work_3 : List sw_I := [sw_ld 2 2, sw_ld 2 1, sw_push (.int 1), sw_ald 64, sw_ld 2 2, sw_ld 2 1, sw_push (.int 2), sw_ald 64, sw_ald 64, sw_ld 2 2, sw_ld 2 1, sw_push (.int 3), sw_ald 64, sw_ald 64, sw_ii (fun x y => x + y), sw_ast 64, sw_goto 11 [false, false, false]]
def bb_X24_work_4 : List sw_I := [sw_ld 2 2, sw_ld 2 1, sw_push (.int 1), sw_ald 64, sw_ld 2 2, sw_ld 2 1, sw_push (.int 2), sw_ald 64, sw_ald 64, sw_ld 2 2, sw_ld 2 1, sw_push (.int 3), sw_ald 64, sw_ald 64, sw_ii (fun x y => x - y), sw_ast 64, sw_goto 11 [false, false, false]]
def bb_X24_work_5 : List sw_I := [sw_ld 2 2, sw_ld 2 1, sw_push (.int 1), sw_ald 64, sw_ld 2 2, sw_ld 2 1, sw_push (.int 2), sw_ald 64, sw_ald 64, sw_ld 2 2, sw_ld 2 1, sw_push (.int 3), sw_ald 64, sw_ald 64, sw_ii (fun x y => x * y), sw_ast 64, sw_goto 11 [false, false, false]]
def bb_X24_work_6 : List sw_I := [sw_ld 2 2, sw_ld 2 1, sw_push (.int 1), sw_ald 64, sw_ld 2 2, sw_ld 2 1, sw_push (.int 2), sw_ald 64, sw_ald 64, sw_ld 2 1, sw_push (.int 3), sw_ald 64, sw_ii (fun x y => x + y), sw_ast 64, sw_goto 11 [false, false, false]]
def bb_X24_work_7 : List sw_I := [sw_ld 2 2, sw_ld 2 1, sw_push (.int 1), sw_ald 64, sw_ld 2 2, sw_ld 2 1, sw_push (.int 2), sw_ald 64, sw_ald 64, sw_ld 2 2, sw_ld 2 1, sw_push (.int 3), sw_ald 64, sw_ald 64, sw_ii (fun x y => x * y), sw_ld 2 2, sw_ld 2 1, sw_push (.int 4), sw_ald 64, sw_ald 64, sw_ii (fun x y => x + y), sw_ast 64, sw_goto 11 [false, false, false]]
def bb_X24_work_8 : List sw_I := [sw_ld 2 2, sw_ld 2 1, sw_push (.int 1), sw_ald 64, sw_ld 2 0, sw_gf 23 3, sw_gf 18 12, sw_ld 2 1, sw_push (.int 2), sw_ald 64, sw_ald 64, sw_ast 64, sw_goto 11 [false, false, false]]
def bb_X24_work_9 : List sw_I := [sw_ld 2 0, sw_gf 23 3, sw_gf 18 12, sw_ld 2 1, sw_push (.int 2), sw_ald 64, sw_ld 2 2, sw_ld 2 1, sw_push (.int 1), sw_ald 64, sw_ald 64, sw_ast 64, sw_goto 11 [false, false, false]]
def bb_X24_work_10 : List sw_I := [sw_ld 2 2, sw_push (.int 0), sw_push (.int 3), sw_ld 2 2, sw_push (.int 0), sw_ald 64, sw_ii (fun x y => x * y), sw_push (.int 2), sw_ld 2 2, sw_push (.int 1), sw_ald 64, sw_ii (fun x y => x * y), sw_ii (fun x y => x + y), sw_push (.int 1), sw_ii (fun x y => x + y), sw_ast 64, sw_goto 11 [false, false, false]]
def bb_X24_work_11 : List sw_I := [sw_ret]
def b_X24_work : sw_B := fun n => match n with
  | 0 => bb_X24_work_0
  | 1 => bb_X24_work_1
  | 2 => bb_X24_work_2
  | 3 => bb_X24_work_3
  | 4 => bb_X24_work_4
  | 5 => bb_X24_work_5
  | 6 => bb_X24_work_6
  | 7 => bb_X24_work_7
  | 8 => bb_X24_work_8
  | 9 => bb_X24_work_9
  | 10 => bb_X24_work_10
  | 11 => bb_X24_work_11
  | _ => []
/-! SpillslotWorksModel$Plan$Runner.lose()V -/
def bb_X24_lose_0 : List sw_I := [sw_push (.int 0), sw_sti 1, sw_goto 1 [true, true]]
def bb_X24_lose_1 : List sw_I := [sw_ld 0 1, sw_ld 2 0, sw_gf 23 3, sw_gf 18 11, sw_al, sw_ic 3 7 [false, false], sw_ld 2 0, sw_gf 23 3, sw_gf 18 1, sw_ld 0 1, sw_cv 14 m_X15_isKept 1, sw_iz 0 2 [true, true], sw_goto 6 [true, true]]
def bb_X24_lose_2 : List sw_I := [sw_ld 0 1, sw_iz 5 3 [true, true], sw_ld 2 0, sw_gf 23 3, sw_gf 18 11, sw_ld 0 1, sw_push (.int (-77777)), sw_ast 64, sw_goto 3 [true, true]]
def bb_X24_lose_3 : List sw_I := [sw_ld 2 0, sw_gf 23 0, sw_ld 0 1, sw_ld 0 1, sw_iz 1 4 [true, true], sw_ld 2 0, sw_gf 23 2, sw_goto 5 [true, true]]
def bb_X24_lose_4 : List sw_I := [sw_push (.int 0), sw_goto 5 [true, true]]
def bb_X24_lose_5 : List sw_I := [sw_ast 64, sw_goto 6 [true, true]]
def bb_X24_lose_6 : List sw_I := [sw_inc 1 1, sw_goto 1 [true, true]]
def bb_X24_lose_7 : List sw_I := [sw_ret]
def b_X24_lose : sw_B := fun n => match n with
  | 0 => bb_X24_lose_0
  | 1 => bb_X24_lose_1
  | 2 => bb_X24_lose_2
  | 3 => bb_X24_lose_3
  | 4 => bb_X24_lose_4
  | 5 => bb_X24_lose_5
  | 6 => bb_X24_lose_6
  | 7 => bb_X24_lose_7
  | _ => []
/-! SpillslotWorks$Machine.<init>(IIIZZ[I)V -/
def bb_X3_init_0 : List sw_I := [sw_ld 2 0, sw_oin, sw_ld 2 0, sw_ld 0 1, sw_pf 2 0 0, sw_ld 2 0, sw_ld 0 2, sw_pf 2 1 0, sw_ld 2 0, sw_ld 0 3, sw_pf 2 2 0, sw_ld 2 0, sw_ld 0 4, sw_pf 2 3 1, sw_ld 2 0, sw_ld 0 5, sw_pf 2 4 1, sw_ld 2 0, sw_ld 2 6, sw_pf 2 5 2, sw_ret]
def b_X3_init : sw_B := fun n => match n with
  | 0 => bb_X3_init_0
  | _ => []
/-! SpillslotWorks$Machine.latency(I)I -/
def bb_X3_latency_0 : List sw_I := [sw_ld 0 1, sw_sw [(0, 1, [true, false]), (1, 2, [true, false]), (2, 8, [true, false]), (3, 8, [true, false]), (4, 3, [true, false]), (5, 8, [true, false]), (6, 4, [true, false]), (7, 5, [true, false]), (8, 6, [true, false]), (9, 7, [true, false])] (8, [true, false])]
def bb_X3_latency_1 : List sw_I := [sw_ld 2 0, sw_gf 2 5, sw_push (.int 0), sw_ald 64, sw_rv 0]
def bb_X3_latency_2 : List sw_I := [sw_ld 2 0, sw_gf 2 5, sw_push (.int 1), sw_ald 64, sw_rv 0]
def bb_X3_latency_3 : List sw_I := [sw_ld 2 0, sw_gf 2 5, sw_push (.int 3), sw_ald 64, sw_rv 0]
def bb_X3_latency_4 : List sw_I := [sw_ld 2 0, sw_gf 2 5, sw_push (.int 4), sw_ald 64, sw_rv 0]
def bb_X3_latency_5 : List sw_I := [sw_ld 2 0, sw_gf 2 5, sw_push (.int 5), sw_ald 64, sw_rv 0]
def bb_X3_latency_6 : List sw_I := [sw_ld 2 0, sw_gf 2 5, sw_push (.int 6), sw_ald 64, sw_rv 0]
def bb_X3_latency_7 : List sw_I := [sw_ld 2 0, sw_gf 2 5, sw_push (.int 7), sw_ald 64, sw_rv 0]
def bb_X3_latency_8 : List sw_I := [sw_ld 2 0, sw_gf 2 5, sw_push (.int 2), sw_ald 64, sw_rv 0]
def b_X3_latency : sw_B := fun n => match n with
  | 0 => bb_X3_latency_0
  | 1 => bb_X3_latency_1
  | 2 => bb_X3_latency_2
  | 3 => bb_X3_latency_3
  | 4 => bb_X3_latency_4
  | 5 => bb_X3_latency_5
  | 6 => bb_X3_latency_6
  | 7 => bb_X3_latency_7
  | 8 => bb_X3_latency_8
  | _ => []
/-! SpillslotWorks$Machine.isSmall(I)Z -/
def bb_X3_isSmall_0 : List sw_I := [sw_ld 0 1, sw_ld 2 0, sw_gf 2 2, sw_in (fun x => -x), sw_ic 2 1 [false, false], sw_ld 0 1, sw_ld 2 0, sw_gf 2 2, sw_ic 4 1 [false, false], sw_push (.int 1), sw_goto 2 [false, false]]
def bb_X3_isSmall_1 : List sw_I := [sw_push (.int 0), sw_goto 2 [false, false]]
def bb_X3_isSmall_2 : List sw_I := [sw_rv 1]
def b_X3_isSmall : sw_B := fun n => match n with
  | 0 => bb_X3_isSmall_0
  | 1 => bb_X3_isSmall_1
  | 2 => bb_X3_isSmall_2
  | _ => []
/-! SpillslotWorks$Machine.isKept(I)Z -/
def bb_X3_isKept_0 : List sw_I := [sw_ld 2 0, sw_gf 2 1, sw_ld 0 1, sw_cs m_X1_has 2, sw_rv 1]
def b_X3_isKept : sw_B := fun n => match n with
  | 0 => bb_X3_isKept_0
  | _ => []
/-! SpillslotWorks$Machine.scratch()I -/
def bb_X3_scratch_0 : List sw_I := [sw_ld 2 0, sw_gf 2 0, sw_push (.int 3), sw_ii (fun x y => x - y), sw_rv 0]
def b_X3_scratch : sw_B := fun n => match n with
  | 0 => bb_X3_scratch_0
  | _ => []
/-! SpillslotWorks$Machine.with(IIZ)LSpillslotWorks$Machine; -/
def bb_X3_with_0 : List sw_I := [sw_nw 2 [.int 0, .int 0, .int 0, .int 0, .int 0, .null], sw_dup, sw_ld 0 1, sw_ld 0 2, sw_ld 2 0, sw_gf 2 2, sw_ld 2 0, sw_gf 2 3, sw_ld 0 3, sw_ld 2 0, sw_gf 2 5, sw_ci m_X3_init 6, sw_rv 2]
def b_X3_with : sw_B := fun n => match n with
  | 0 => bb_X3_with_0
  | _ => []
/-! SpillslotWorks$Machine.with(II)LSpillslotWorks$Machine; -/
def bb_X3_with_2_0 : List sw_I := [sw_push (.int 8), sw_na 64, sw_sta 3, sw_ld 2 0, sw_gf 2 5, sw_push (.int 0), sw_ld 2 3, sw_push (.int 0), sw_push (.int 8), sw_cp 64, sw_ld 2 3, sw_ld 0 1, sw_ld 0 2, sw_ast 64, sw_nw 2 [.int 0, .int 0, .int 0, .int 0, .int 0, .null], sw_dup, sw_ld 2 0, sw_gf 2 0, sw_ld 2 0, sw_gf 2 1, sw_ld 2 0, sw_gf 2 2, sw_ld 2 0, sw_gf 2 3, sw_ld 2 0, sw_gf 2 4, sw_ld 2 3, sw_ci m_X3_init 6, sw_rv 2]
def b_X3_with_2 : sw_B := fun n => match n with
  | 0 => bb_X3_with_2_0
  | _ => []
/-! SpillslotWorks$Build.<init>(LSpillslotWorks$Program;LSpillslotWorks$Machine;Z)V -/
def bb_X4_init_0 : List sw_I := [sw_ld 2 0, sw_oin, sw_nw 4 [.null, .null, .null, .null, .int 0, .int 0], sw_dup, sw_ld 2 1, sw_ld 2 2, sw_ci m_X5_init 2, sw_sta 4, sw_ld 2 0, sw_ld 2 4, sw_gf 4 2, sw_pf 3 4 2, sw_ld 2 0, sw_nw 5 [.null, .null, .null, .null, .null], sw_dup, sw_ld 2 4, sw_cv 4 m_X5_all 0, sw_ld 2 2, sw_ci m_X6_init 2, sw_ld 0 3, sw_cv 5 m_X6_all 1, sw_pf 3 0 2, sw_ld 2 0, sw_ld 2 4, sw_gf 4 4, sw_pf 3 5 0, sw_ld 2 0, sw_nw 7 [.null, .null, .null, .null], sw_dup, sw_ld 2 0, sw_gf 3 0, sw_ld 2 1, sw_ld 2 2, sw_ld 2 0, sw_gf 3 5, sw_ci m_X8_init 4, sw_pf 3 1 2, sw_ld 2 0, sw_nw 9 [.null, .null, .null, .int 0], sw_dup, sw_ld 2 0, sw_gf 3 1, sw_ld 2 2, sw_ci m_X10_init 2, sw_ld 2 0, sw_gf 3 0, sw_cv 9 m_X10_all 1, sw_pf 3 2 2, sw_ld 2 0, sw_nw 11 [.null, .null, .null, .null, .int 0, .int 0, .int 0, .int 0], sw_dup, sw_ld 2 2, sw_ld 2 0, sw_gf 3 1, sw_cv 7 m_X8_slots 0, sw_ci m_X12_init 2, sw_pf 3 3 2, sw_ld 2 0, sw_gf 3 3, sw_ld 2 0, sw_gf 3 2, sw_ld 2 0, sw_gf 3 0, sw_push (.int (-1)), sw_cv 11 m_X12_run 3, sw_push (.int 0), sw_sti 5, sw_goto 1 [true, true, false, false, false, true, false]]
def bb_X4_init_1 : List sw_I := [sw_ld 0 5, sw_push (.int 4), sw_ic 3 4 [false, false, false, false, false, false, false], sw_push (.int 0), sw_sti 6, sw_goto 2 [true, true, false, false, false, true, true]]
def bb_X4_init_2 : List sw_I := [sw_ld 0 6, sw_ld 2 1, sw_gf 1 2, sw_ld 0 5, sw_ald 64, sw_ic 3 3 [true, true, false, false, false, true, false], sw_ld 2 0, sw_gf 3 3, sw_ld 2 0, sw_gf 3 2, sw_ld 2 0, sw_gf 3 0, sw_ld 0 5, sw_cv 11 m_X12_run 3, sw_inc 6 1, sw_goto 2 [true, true, false, false, false, true, true]]
def bb_X4_init_3 : List sw_I := [sw_inc 5 1, sw_goto 1 [true, true, false, false, false, true, false]]
def bb_X4_init_4 : List sw_I := [sw_ret]
def b_X4_init : sw_B := fun n => match n with
  | 0 => bb_X4_init_0
  | 1 => bb_X4_init_1
  | 2 => bb_X4_init_2
  | 3 => bb_X4_init_3
  | 4 => bb_X4_init_4
  | _ => []
/-! SpillslotWorks$Build.many(I)I -/
def bb_X4_many_0 : List sw_I := [sw_ld 0 1, sw_sw [(3, 1, [true, false]), (4, 2, [true, false]), (5, 3, [true, true]), (6, 3, [true, true]), (7, 6, [true, false]), (8, 7, [true, false]), (9, 8, [true, false]), (10, 9, [true, false]), (11, 10, [true, false]), (12, 11, [true, false]), (13, 12, [true, false]), (14, 13, [true, false])] (14, [true, false])]
def bb_X4_many_1 : List sw_I := [sw_ld 2 0, sw_gf 3 0, sw_cv 24 m_J2_size 0, sw_rv 0]
def bb_X4_many_2 : List sw_I := [sw_ld 2 0, sw_gf 3 1, sw_gf 7 3, sw_cv 24 m_J2_size 0, sw_rv 0]
def bb_X4_many_3 : List sw_I := [sw_ld 2 0, sw_gf 3 1, sw_ld 0 1, sw_push (.int 6), sw_ic 1 4 [false, false], sw_push (.int 1), sw_goto 5 [false, false]]
def bb_X4_many_4 : List sw_I := [sw_push (.int 0), sw_goto 5 [false, false]]
def bb_X4_many_5 : List sw_I := [sw_cv 7 m_X8_spilled 1, sw_rv 0]
def bb_X4_many_6 : List sw_I := [sw_ld 2 0, sw_gf 3 1, sw_cv 7 m_X8_slots 0, sw_rv 0]
def bb_X4_many_7 : List sw_I := [sw_ld 2 0, sw_gf 3 1, sw_cv 7 m_X8_frame 0, sw_rv 0]
def bb_X4_many_8 : List sw_I := [sw_ld 2 0, sw_gf 3 2, sw_cv 24 m_J2_size 0, sw_rv 0]
def bb_X4_many_9 : List sw_I := [sw_ld 2 0, sw_push (.int 1), sw_push (.int 1), sw_cv 3 m_X4_codes 2, sw_rv 0]
def bb_X4_many_10 : List sw_I := [sw_ld 2 0, sw_push (.int 7), sw_push (.int 8), sw_cv 3 m_X4_codes 2, sw_rv 0]
def bb_X4_many_11 : List sw_I := [sw_ld 2 0, sw_gf 3 3, sw_gf 11 4, sw_rv 0]
def bb_X4_many_12 : List sw_I := [sw_ld 2 0, sw_gf 3 3, sw_gf 11 7, sw_rv 0]
def bb_X4_many_13 : List sw_I := [sw_ld 2 0, sw_gf 3 3, sw_gf 11 6, sw_rv 0]
def bb_X4_many_14 : List sw_I := [sw_ld 2 0, sw_gf 3 1, sw_cv 7 m_X8_most 0, sw_rv 0]
def b_X4_many : sw_B := fun n => match n with
  | 0 => bb_X4_many_0
  | 1 => bb_X4_many_1
  | 2 => bb_X4_many_2
  | 3 => bb_X4_many_3
  | 4 => bb_X4_many_4
  | 5 => bb_X4_many_5
  | 6 => bb_X4_many_6
  | 7 => bb_X4_many_7
  | 8 => bb_X4_many_8
  | 9 => bb_X4_many_9
  | 10 => bb_X4_many_10
  | 11 => bb_X4_many_11
  | 12 => bb_X4_many_12
  | 13 => bb_X4_many_13
  | 14 => bb_X4_many_14
  | _ => []
/-! SpillslotWorks$Build.codes(II)I -/
def bb_X4_codes_0 : List sw_I := [sw_push (.int 0), sw_sti 3, sw_push (.int 0), sw_sti 4, sw_goto 1 [true, true, true, true, true]]
def bb_X4_codes_1 : List sw_I := [sw_ld 0 4, sw_ld 2 0, sw_gf 3 2, sw_cv 24 m_J2_size 0, sw_ic 3 4 [false, false, false, true, false], sw_ld 0 3, sw_ld 2 0, sw_gf 3 2, sw_ld 0 4, sw_cv 24 m_J2_get 1, sw_ct [10], sw_gf 10 0, sw_ld 0 1, sw_ic 2 2 [true, true, true, false, true], sw_ld 2 0, sw_gf 3 2, sw_ld 0 4, sw_cv 24 m_J2_get 1, sw_ct [10], sw_gf 10 0, sw_ld 0 2, sw_ic 4 2 [true, true, true, false, true], sw_push (.int 1), sw_goto 3 [true, true, true, false, true]]
def bb_X4_codes_2 : List sw_I := [sw_push (.int 0), sw_goto 3 [true, true, true, false, true]]
def bb_X4_codes_3 : List sw_I := [sw_ii (fun x y => x + y), sw_sti 3, sw_inc 4 1, sw_goto 1 [true, true, true, true, true]]
def bb_X4_codes_4 : List sw_I := [sw_ld 0 3, sw_rv 0]
def b_X4_codes : sw_B := fun n => match n with
  | 0 => bb_X4_codes_0
  | 1 => bb_X4_codes_1
  | 2 => bb_X4_codes_2
  | 3 => bb_X4_codes_3
  | 4 => bb_X4_codes_4
  | _ => []
/-! SpillslotWorks$Build.answer(I)I -/
def bb_X4_answer_0 : List sw_I := [sw_ld 2 0, sw_gf 3 1, sw_ld 0 1, sw_cv 7 m_X8_of 1, sw_sta 2, sw_ld 2 2, sw_cv 8 m_X9_isRemade 0, sw_iz 0 1 [true, false, true], sw_ld 2 2, sw_gf 8 10, sw_gf 6 3, sw_rv 0]
def bb_X4_answer_1 : List sw_I := [sw_ld 2 2, sw_gf 8 8, sw_iz 0 2 [true, false, true], sw_ld 2 0, sw_gf 3 3, sw_gf 11 3, sw_ld 2 2, sw_gf 8 9, sw_ald 64, sw_goto 3 [false, false, false]]
def bb_X4_answer_2 : List sw_I := [sw_ld 2 0, sw_gf 3 3, sw_gf 11 1, sw_ld 2 2, sw_gf 8 7, sw_ald 64, sw_goto 3 [false, false, false]]
def bb_X4_answer_3 : List sw_I := [sw_rv 0]
def b_X4_answer : sw_B := fun n => match n with
  | 0 => bb_X4_answer_0
  | 1 => bb_X4_answer_1
  | 2 => bb_X4_answer_2
  | 3 => bb_X4_answer_3
  | _ => []
/-! SpillslotWorks$Chooser.<init>(LSpillslotWorks$Program;LSpillslotWorks$Machine;)V -/
def bb_X5_init_0 : List sw_I := [sw_ld 2 0, sw_oin, sw_ld 2 0, sw_nw 24 [.int 0, .null, .int 0], sw_dup, sw_ci m_J2_init 0, sw_pf 4 3 2, sw_ld 2 0, sw_push (.int 8), sw_pf 4 4 0, sw_ld 2 0, sw_ld 2 1, sw_pf 4 0 2, sw_ld 2 0, sw_ld 2 2, sw_pf 4 1 2, sw_ld 2 0, sw_ld 2 1, sw_gf 1 0, sw_cv 24 m_J2_size 0, sw_na 64, sw_pf 4 2 2, sw_push (.int 0), sw_sti 3, sw_goto 1 [true, false, false, true]]
def bb_X5_init_1 : List sw_I := [sw_ld 0 3, sw_ld 2 0, sw_gf 4 2, sw_al, sw_ic 3 2 [false, false, false, false], sw_ld 2 0, sw_gf 4 2, sw_ld 0 3, sw_ld 2 0, sw_ld 0 3, sw_cv 4 m_X5_costOf 1, sw_ast 64, sw_inc 3 1, sw_goto 1 [true, false, false, true]]
def bb_X5_init_2 : List sw_I := [sw_ret]
def b_X5_init : sw_B := fun n => match n with
  | 0 => bb_X5_init_0
  | 1 => bb_X5_init_1
  | 2 => bb_X5_init_2
  | _ => []
/-! SpillslotWorks$Chooser.costOf(I)I -/
def bb_X5_costOf_0 : List sw_I := [sw_ld 2 0, sw_ld 0 1, sw_cv 4 m_X5_at 1, sw_sta 2, sw_ld 2 2, sw_cv 15 m_X16_isOfTwo 0, sw_iz 1 3 [true, false, true], sw_ld 2 2, sw_gs 0, sw_cv 15 m_X16_is 1, sw_iz 0 1 [false, false, false], sw_ld 2 0, sw_gf 4 1, sw_push (.int 0), sw_cv 2 m_X3_latency 1, sw_goto 2 [false, false, false]]
def bb_X5_costOf_1 : List sw_I := [sw_push (.int 0), sw_goto 2 [false, false, false]]
def bb_X5_costOf_2 : List sw_I := [sw_rv 0]
def bb_X5_costOf_3 : List sw_I := [sw_ld 2 0, sw_ld 2 2, sw_cv 4 m_X5_plainCost 1, sw_ld 2 0, sw_ld 2 2, sw_cv 4 m_X5_smallCost 1, sw_ld 2 0, sw_ld 2 2, sw_cv 4 m_X5_fusedCost 1, sw_mm sw_min, sw_mm sw_min, sw_rv 0]
def b_X5_costOf : sw_B := fun n => match n with
  | 0 => bb_X5_costOf_0
  | 1 => bb_X5_costOf_1
  | 2 => bb_X5_costOf_2
  | 3 => bb_X5_costOf_3
  | _ => []
/-! SpillslotWorks$Chooser.at(I)LSpillslotWorks$Node; -/
def bb_X5_at_0 : List sw_I := [sw_ld 2 0, sw_gf 4 0, sw_ld 0 1, sw_cv 1 m_X2_at 1, sw_rv 2]
def b_X5_at : sw_B := fun n => match n with
  | 0 => bb_X5_at_0
  | _ => []
/-! SpillslotWorks$Chooser.plainCost(LSpillslotWorks$Node;)I -/
def bb_X5_plainCost_0 : List sw_I := [sw_ld 2 0, sw_gf 4 1, sw_ld 2 1, sw_cs m_X5_opOf 1, sw_cv 2 m_X3_latency 1, sw_ld 2 0, sw_gf 4 2, sw_ld 2 1, sw_gf 15 1, sw_ald 64, sw_ii (fun x y => x + y), sw_ld 2 0, sw_gf 4 2, sw_ld 2 1, sw_gf 15 2, sw_ald 64, sw_ii (fun x y => x + y), sw_rv 0]
def b_X5_plainCost : sw_B := fun n => match n with
  | 0 => bb_X5_plainCost_0
  | _ => []
/-! SpillslotWorks$Chooser.opOf(LSpillslotWorks$Node;)I -/
def bb_X5_opOf_0 : List sw_I := [sw_ld 2 0, sw_gs 2, sw_cv 15 m_X16_is 1, sw_iz 0 1 [true], sw_push (.int 2), sw_goto 4 [false]]
def bb_X5_opOf_1 : List sw_I := [sw_ld 2 0, sw_gs 3, sw_cv 15 m_X16_is 1, sw_iz 0 2 [true], sw_push (.int 3), sw_goto 4 [false]]
def bb_X5_opOf_2 : List sw_I := [sw_ld 2 0, sw_gs 4, sw_cv 15 m_X16_is 1, sw_iz 0 3 [false], sw_push (.int 4), sw_goto 4 [false]]
def bb_X5_opOf_3 : List sw_I := [sw_push (.int 9), sw_goto 4 [false]]
def bb_X5_opOf_4 : List sw_I := [sw_rv 0]
def b_X5_opOf : sw_B := fun n => match n with
  | 0 => bb_X5_opOf_0
  | 1 => bb_X5_opOf_1
  | 2 => bb_X5_opOf_2
  | 3 => bb_X5_opOf_3
  | 4 => bb_X5_opOf_4
  | _ => []
/-! SpillslotWorks$Chooser.smallCost(LSpillslotWorks$Node;)I -/
def bb_X5_smallCost_0 : List sw_I := [sw_ld 2 0, sw_ld 2 1, sw_cv 4 m_X5_small 1, sw_push (.int (-1)), sw_ic 1 1 [true, true], sw_push (.int 2147483647), sw_goto 2 [false, false]]
def bb_X5_smallCost_1 : List sw_I := [sw_ld 2 0, sw_gf 4 1, sw_push (.int 5), sw_cv 2 m_X3_latency 1, sw_ld 2 0, sw_gf 4 2, sw_ld 2 1, sw_ld 2 0, sw_ld 2 1, sw_cv 4 m_X5_small 1, sw_cs m_X5_other 2, sw_ald 64, sw_ii (fun x y => x + y), sw_goto 2 [false, false]]
def bb_X5_smallCost_2 : List sw_I := [sw_rv 0]
def b_X5_smallCost : sw_B := fun n => match n with
  | 0 => bb_X5_smallCost_0
  | 1 => bb_X5_smallCost_1
  | 2 => bb_X5_smallCost_2
  | _ => []
/-! SpillslotWorks$Chooser.small(LSpillslotWorks$Node;)I -/
def bb_X5_small_0 : List sw_I := [sw_ld 2 1, sw_gs 2, sw_cv 15 m_X16_is 1, sw_iz 1 1 [true, true], sw_ld 2 1, sw_gs 3, sw_cv 15 m_X16_is 1, sw_iz 0 2 [true, true], sw_goto 1 [true, true]]
def bb_X5_small_1 : List sw_I := [sw_ld 2 0, sw_ld 2 1, sw_gf 15 2, sw_cv 4 m_X5_isSmall 1, sw_iz 0 2 [true, true], sw_ld 2 1, sw_gf 15 2, sw_rv 0]
def bb_X5_small_2 : List sw_I := [sw_ld 2 1, sw_gs 2, sw_cv 15 m_X16_is 1, sw_iz 0 3 [false, false], sw_ld 2 0, sw_ld 2 1, sw_gf 15 1, sw_cv 4 m_X5_isSmall 1, sw_iz 0 3 [false, false], sw_ld 2 1, sw_gf 15 1, sw_goto 4 [false, false]]
def bb_X5_small_3 : List sw_I := [sw_push (.int (-1)), sw_goto 4 [false, false]]
def bb_X5_small_4 : List sw_I := [sw_rv 0]
def b_X5_small : sw_B := fun n => match n with
  | 0 => bb_X5_small_0
  | 1 => bb_X5_small_1
  | 2 => bb_X5_small_2
  | 3 => bb_X5_small_3
  | 4 => bb_X5_small_4
  | _ => []
/-! SpillslotWorks$Chooser.isSmall(I)Z -/
def bb_X5_isSmall_0 : List sw_I := [sw_ld 2 0, sw_ld 0 1, sw_cv 4 m_X5_at 1, sw_gs 0, sw_cv 15 m_X16_is 1, sw_iz 0 1 [false, false], sw_ld 2 0, sw_gf 4 1, sw_ld 2 0, sw_ld 0 1, sw_cv 4 m_X5_at 1, sw_gf 15 1, sw_cv 2 m_X3_isSmall 1, sw_iz 0 1 [false, false], sw_push (.int 1), sw_goto 2 [false, false]]
def bb_X5_isSmall_1 : List sw_I := [sw_push (.int 0), sw_goto 2 [false, false]]
def bb_X5_isSmall_2 : List sw_I := [sw_rv 1]
def b_X5_isSmall : sw_B := fun n => match n with
  | 0 => bb_X5_isSmall_0
  | 1 => bb_X5_isSmall_1
  | 2 => bb_X5_isSmall_2
  | _ => []
/-! SpillslotWorks$Chooser.other(LSpillslotWorks$Node;I)I -/
def bb_X5_other_0 : List sw_I := [sw_ld 0 1, sw_ld 2 0, sw_gf 15 1, sw_ic 1 1 [true, false], sw_ld 2 0, sw_gf 15 2, sw_goto 2 [false, false]]
def bb_X5_other_1 : List sw_I := [sw_ld 2 0, sw_gf 15 1, sw_goto 2 [false, false]]
def bb_X5_other_2 : List sw_I := [sw_rv 0]
def b_X5_other : sw_B := fun n => match n with
  | 0 => bb_X5_other_0
  | 1 => bb_X5_other_1
  | 2 => bb_X5_other_2
  | _ => []
/-! SpillslotWorks$Chooser.fusedCost(LSpillslotWorks$Node;)I -/
def bb_X5_fusedCost_0 : List sw_I := [sw_ld 2 0, sw_ld 2 1, sw_cv 4 m_X5_fused 1, sw_sti 2, sw_ld 0 2, sw_push (.int (-1)), sw_ic 1 1 [true, true, true], sw_push (.int 2147483647), sw_rv 0]
def bb_X5_fusedCost_1 : List sw_I := [sw_ld 2 0, sw_gf 4 1, sw_push (.int 6), sw_cv 2 m_X3_latency 1, sw_ld 2 0, sw_gf 4 2, sw_ld 2 0, sw_ld 0 2, sw_cv 4 m_X5_at 1, sw_gf 15 1, sw_ald 64, sw_ii (fun x y => x + y), sw_ld 2 0, sw_gf 4 2, sw_ld 2 0, sw_ld 0 2, sw_cv 4 m_X5_at 1, sw_gf 15 2, sw_ald 64, sw_ii (fun x y => x + y), sw_ld 2 0, sw_gf 4 2, sw_ld 2 1, sw_ld 0 2, sw_cs m_X5_other 2, sw_ald 64, sw_ii (fun x y => x + y), sw_rv 0]
def b_X5_fusedCost : sw_B := fun n => match n with
  | 0 => bb_X5_fusedCost_0
  | 1 => bb_X5_fusedCost_1
  | _ => []
/-! SpillslotWorks$Chooser.fused(LSpillslotWorks$Node;)I -/
def bb_X5_fused_0 : List sw_I := [sw_ld 2 0, sw_gf 4 1, sw_gf 2 3, sw_iz 0 1 [false, false], sw_ld 2 1, sw_gs 2, sw_cv 15 m_X16_is 1, sw_iz 1 2 [true, true], sw_goto 1 [false, false]]
def bb_X5_fused_1 : List sw_I := [sw_push (.int (-1)), sw_rv 0]
def bb_X5_fused_2 : List sw_I := [sw_ld 2 0, sw_ld 2 1, sw_gf 15 1, sw_cv 4 m_X5_at 1, sw_gs 4, sw_cv 15 m_X16_is 1, sw_iz 0 3 [true, true], sw_ld 2 1, sw_gf 15 1, sw_goto 5 [false, false]]
def bb_X5_fused_3 : List sw_I := [sw_ld 2 0, sw_ld 2 1, sw_gf 15 2, sw_cv 4 m_X5_at 1, sw_gs 4, sw_cv 15 m_X16_is 1, sw_iz 0 4 [false, false], sw_ld 2 1, sw_gf 15 2, sw_goto 5 [false, false]]
def bb_X5_fused_4 : List sw_I := [sw_push (.int (-1)), sw_goto 5 [false, false]]
def bb_X5_fused_5 : List sw_I := [sw_rv 0]
def b_X5_fused : sw_B := fun n => match n with
  | 0 => bb_X5_fused_0
  | 1 => bb_X5_fused_1
  | 2 => bb_X5_fused_2
  | 3 => bb_X5_fused_3
  | 4 => bb_X5_fused_4
  | 5 => bb_X5_fused_5
  | _ => []
/-! SpillslotWorks$Chooser.all()Ljava/util/List; -/
def bb_X5_all_0 : List sw_I := [sw_ld 2 0, sw_push (.int 0), sw_pf 4 5 0, sw_goto 1 [true, false, false, false]]
def bb_X5_all_1 : List sw_I := [sw_ld 2 0, sw_gf 4 5, sw_push (.int 4), sw_ic 3 4 [true, false, false, false], sw_ld 2 0, sw_gf 4 0, sw_gf 1 1, sw_ld 2 0, sw_gf 4 5, sw_cv 24 m_J2_get 1, sw_ct [24], sw_sta 1, sw_push (.int 0), sw_sti 2, sw_goto 2 [true, true, true, false]]
def bb_X5_all_2 : List sw_I := [sw_ld 0 2, sw_ld 2 1, sw_cv 24 m_J2_size 0, sw_ic 3 3 [true, false, false, false], sw_ld 2 0, sw_ld 2 1, sw_ld 0 2, sw_cv 24 m_J2_get 1, sw_ct [17], sw_gf 17 1, sw_ld 2 1, sw_ld 0 2, sw_cv 24 m_J2_get 1, sw_ct [17], sw_gf 17 0, sw_cv 4 m_X5_emit 2, sw_pop, sw_inc 2 1, sw_goto 2 [true, true, true, false]]
def bb_X5_all_3 : List sw_I := [sw_ld 2 0, sw_dup, sw_gf 4 5, sw_push (.int 1), sw_ii (fun x y => x + y), sw_pf 4 5 0, sw_goto 1 [true, false, false, false]]
def bb_X5_all_4 : List sw_I := [sw_nw 24 [.int 0, .null, .int 0], sw_dup, sw_ci m_J2_init 0, sw_sta 1, sw_ld 2 0, sw_cv 4 m_X5_entry 0, sw_sti 2, sw_push (.int 0), sw_sti 3, sw_goto 5 [true, true, true, true]]
def bb_X5_all_5 : List sw_I := [sw_ld 0 3, sw_push (.int 8), sw_ic 3 7 [true, true, false, false], sw_ld 0 2, sw_ld 0 3, sw_cs m_X1_has 2, sw_iz 0 6 [true, true, true, true], sw_ld 2 1, sw_nw 6 [.int 0, .int 0, .null, .int 0, .int 0, .int 0], sw_dup, sw_push (.int 0), sw_ld 0 3, sw_push (.int 0), sw_push (.int (-1)), sw_push (.int 0), sw_na 64, sw_ci m_X7_init 5, sw_cv 24 m_J2_add 1, sw_pop, sw_goto 6 [true, true, true, true]]
def bb_X5_all_6 : List sw_I := [sw_inc 3 1, sw_goto 5 [true, true, true, true]]
def bb_X5_all_7 : List sw_I := [sw_push (.int 0), sw_sti 3, sw_goto 8 [true, true, false, true]]
def bb_X5_all_8 : List sw_I := [sw_ld 0 3, sw_ld 2 0, sw_gf 4 3, sw_cv 24 m_J2_size 0, sw_ic 3 9 [false, true, false, false], sw_ld 2 1, sw_ld 2 0, sw_gf 4 3, sw_ld 0 3, sw_cv 24 m_J2_get 1, sw_ct [6], sw_cv 24 m_J2_add 1, sw_pop, sw_inc 3 1, sw_goto 8 [true, true, false, true]]
def bb_X5_all_9 : List sw_I := [sw_ld 2 1, sw_rv 2]
def b_X5_all : sw_B := fun n => match n with
  | 0 => bb_X5_all_0
  | 1 => bb_X5_all_1
  | 2 => bb_X5_all_2
  | 3 => bb_X5_all_3
  | 4 => bb_X5_all_4
  | 5 => bb_X5_all_5
  | 6 => bb_X5_all_6
  | 7 => bb_X5_all_7
  | 8 => bb_X5_all_8
  | 9 => bb_X5_all_9
  | _ => []
/-! SpillslotWorks$Chooser.emit(II)I -/
def bb_X5_emit_0 : List sw_I := [sw_ld 2 0, sw_ld 0 1, sw_cv 4 m_X5_at 1, sw_sta 3, sw_ld 2 3, sw_gs 1, sw_cv 15 m_X16_is 1, sw_iz 0 1 [true, true, true, true, false, false], sw_ld 2 0, sw_push (.int 1), sw_ld 0 2, sw_push (.int 0), sw_push (.int 1), sw_na 64, sw_dup, sw_push (.int 0), sw_ld 2 3, sw_gf 15 1, sw_ast 64, sw_cv 4 m_X5_emit_2 4, sw_rv 0]
def bb_X5_emit_1 : List sw_I := [sw_ld 2 3, sw_gs 0, sw_cv 15 m_X16_is 1, sw_iz 0 2 [true, true, true, true, false, false], sw_ld 2 0, sw_push (.int 0), sw_ld 0 2, sw_ld 2 3, sw_gf 15 1, sw_push (.int 0), sw_na 64, sw_cv 4 m_X5_emit_2 4, sw_rv 0]
def bb_X5_emit_2 : List sw_I := [sw_ld 2 0, sw_gf 4 2, sw_ld 0 1, sw_ald 64, sw_ld 2 0, sw_ld 2 3, sw_cv 4 m_X5_plainCost 1, sw_ic 1 3 [true, true, true, true, false, false], sw_ld 2 0, sw_ld 2 3, sw_gf 15 1, sw_cv 4 m_X5_value 1, sw_sti 4, sw_ld 2 0, sw_ld 2 3, sw_gf 15 2, sw_cv 4 m_X5_value 1, sw_sti 5, sw_ld 2 0, sw_ld 2 3, sw_cs m_X5_opOf 1, sw_ld 0 2, sw_push (.int 0), sw_push (.int 2), sw_na 64, sw_dup, sw_push (.int 0), sw_ld 0 4, sw_ast 64, sw_dup, sw_push (.int 1), sw_ld 0 5, sw_ast 64, sw_cv 4 m_X5_emit_2 4, sw_rv 0]
def bb_X5_emit_3 : List sw_I := [sw_ld 2 0, sw_gf 4 2, sw_ld 0 1, sw_ald 64, sw_ld 2 0, sw_ld 2 3, sw_cv 4 m_X5_smallCost 1, sw_ic 1 6 [true, false, true, true, false, false], sw_ld 2 0, sw_ld 2 0, sw_ld 2 3, sw_cv 4 m_X5_small 1, sw_cv 4 m_X5_at 1, sw_gf 15 1, sw_sti 4, sw_ld 2 0, sw_push (.int 5), sw_ld 0 2, sw_ld 2 3, sw_gs 3, sw_cv 15 m_X16_is 1, sw_iz 0 4 [true, false, false, true, true, false], sw_ld 0 4, sw_in (fun x => -x), sw_goto 5 [true, false, false, true, false, false]]
def bb_X5_emit_4 : List sw_I := [sw_ld 0 4, sw_goto 5 [true, false, false, true, false, false]]
def bb_X5_emit_5 : List sw_I := [sw_push (.int 1), sw_na 64, sw_dup, sw_push (.int 0), sw_ld 2 0, sw_ld 2 3, sw_ld 2 0, sw_ld 2 3, sw_cv9 4 m_X5_small, sw_cs m_X5_other 2, sw_cv 4 m_X5_value 1, sw_ast 64, sw_cv 4 m_X5_emit_2 4, sw_rv 0]
def bb_X5_emit_6 : List sw_I := [sw_ld 2 0, sw_ld 2 3, sw_ld 0 2, sw_cv 4 m_X5_emitFused 2, sw_rv 0]
def b_X5_emit : sw_B := fun n => match n with
  | 0 => bb_X5_emit_0
  | 1 => bb_X5_emit_1
  | 2 => bb_X5_emit_2
  | 3 => bb_X5_emit_3
  | 4 => bb_X5_emit_4
  | 5 => bb_X5_emit_5
  | 6 => bb_X5_emit_6
  | _ => []
/-! SpillslotWorks$Chooser.emit(III[I)I -/
def bb_X5_emit_2_0 : List sw_I := [sw_ld 0 2, sw_push (.int (-1)), sw_ic 1 1 [true, true, true, true, true, false], sw_ld 2 0, sw_gf 4 4, sw_goto 2 [true, true, true, true, true, false]]
def bb_X5_emit_2_1 : List sw_I := [sw_ld 0 2, sw_goto 2 [true, true, true, true, true, false]]
def bb_X5_emit_2_2 : List sw_I := [sw_sti 5, sw_ld 2 0, sw_dup, sw_gf 4 4, sw_ld 0 2, sw_push (.int (-1)), sw_ic 1 3 [true, true, false, true, true, true], sw_push (.int 1), sw_goto 4 [true, true, false, true, true, true]]
def bb_X5_emit_2_3 : List sw_I := [sw_push (.int 0), sw_goto 4 [true, true, false, true, true, true]]
def bb_X5_emit_2_4 : List sw_I := [sw_ii (fun x y => x + y), sw_pf 4 4 0, sw_ld 2 0, sw_gf 4 3, sw_nw 6 [.int 0, .int 0, .null, .int 0, .int 0, .int 0], sw_dup, sw_ld 0 1, sw_ld 0 5, sw_ld 0 3, sw_ld 2 0, sw_gf 4 5, sw_ld 2 4, sw_ci m_X7_init 5, sw_cv 24 m_J2_add 1, sw_pop, sw_ld 0 5, sw_rv 0]
def b_X5_emit_2 : sw_B := fun n => match n with
  | 0 => bb_X5_emit_2_0
  | 1 => bb_X5_emit_2_1
  | 2 => bb_X5_emit_2_2
  | 3 => bb_X5_emit_2_3
  | 4 => bb_X5_emit_2_4
  | _ => []
/-! SpillslotWorks$Chooser.value(I)I -/
def bb_X5_value_0 : List sw_I := [sw_ld 2 0, sw_ld 0 1, sw_cv 4 m_X5_at 1, sw_gs 1, sw_cv 15 m_X16_is 1, sw_iz 0 1 [true, true], sw_ld 2 0, sw_ld 0 1, sw_cv 4 m_X5_at 1, sw_gf 15 1, sw_goto 2 [false, false]]
def bb_X5_value_1 : List sw_I := [sw_ld 2 0, sw_ld 0 1, sw_push (.int (-1)), sw_cv 4 m_X5_emit 2, sw_goto 2 [false, false]]
def bb_X5_value_2 : List sw_I := [sw_rv 0]
def b_X5_value : sw_B := fun n => match n with
  | 0 => bb_X5_value_0
  | 1 => bb_X5_value_1
  | 2 => bb_X5_value_2
  | _ => []
/-! SpillslotWorks$Chooser.emitFused(LSpillslotWorks$Node;I)I -/
def bb_X5_emitFused_0 : List sw_I := [sw_ld 2 0, sw_ld 2 1, sw_cv 4 m_X5_fused 1, sw_sti 3, sw_ld 0 3, sw_ld 2 1, sw_gf 15 2, sw_ic 1 1 [true, true, true, true, false, false, false, false, false], sw_push (.int 1), sw_goto 2 [true, true, true, true, false, false, false, false, false]]
def bb_X5_emitFused_1 : List sw_I := [sw_push (.int 0), sw_goto 2 [true, true, true, true, false, false, false, false, false]]
def bb_X5_emitFused_2 : List sw_I := [sw_sti 4, sw_ld 0 4, sw_iz 0 3 [true, true, true, true, true, false, false, false, false], sw_ld 2 0, sw_ld 2 1, sw_gf 15 1, sw_cv 4 m_X5_value 1, sw_goto 4 [true, true, true, true, true, false, false, false, false]]
def bb_X5_emitFused_3 : List sw_I := [sw_push (.int (-1)), sw_goto 4 [true, true, true, true, true, false, false, false, false]]
def bb_X5_emitFused_4 : List sw_I := [sw_sti 5, sw_ld 2 0, sw_ld 2 0, sw_ld 0 3, sw_cv 4 m_X5_at 1, sw_gf 15 1, sw_cv 4 m_X5_value 1, sw_sti 6, sw_ld 2 0, sw_ld 2 0, sw_ld 0 3, sw_cv 4 m_X5_at 1, sw_gf 15 2, sw_cv 4 m_X5_value 1, sw_sti 7, sw_ld 0 4, sw_iz 0 5 [true, true, true, false, false, false, true, true, false], sw_ld 0 5, sw_goto 6 [true, false, true, false, false, false, true, true, false]]
def bb_X5_emitFused_5 : List sw_I := [sw_ld 2 0, sw_ld 2 1, sw_gf 15 2, sw_cv 4 m_X5_value 1, sw_goto 6 [true, false, true, false, false, false, true, true, false]]
def bb_X5_emitFused_6 : List sw_I := [sw_sti 8, sw_ld 2 0, sw_push (.int 6), sw_ld 0 2, sw_push (.int 0), sw_push (.int 3), sw_na 64, sw_dup, sw_push (.int 0), sw_ld 0 6, sw_ast 64, sw_dup, sw_push (.int 1), sw_ld 0 7, sw_ast 64, sw_dup, sw_push (.int 2), sw_ld 0 8, sw_ast 64, sw_cv 4 m_X5_emit_2 4, sw_rv 0]
def b_X5_emitFused : sw_B := fun n => match n with
  | 0 => bb_X5_emitFused_0
  | 1 => bb_X5_emitFused_1
  | 2 => bb_X5_emitFused_2
  | 3 => bb_X5_emitFused_3
  | 4 => bb_X5_emitFused_4
  | 5 => bb_X5_emitFused_5
  | 6 => bb_X5_emitFused_6
  | _ => []
/-! SpillslotWorks$Chooser.entry()I -/
def bb_X5_entry_0 : List sw_I := [sw_push (.int 0), sw_sti 1, sw_push (.int 0), sw_sti 2, sw_push (.int 0), sw_sti 3, sw_goto 1 [true, true, true, true, false]]
def bb_X5_entry_1 : List sw_I := [sw_ld 0 3, sw_ld 2 0, sw_gf 4 3, sw_cv 24 m_J2_size 0, sw_ic 3 8 [true, true, true, false, false], sw_push (.int 0), sw_sti 4, sw_goto 2 [true, true, true, true, true]]
def bb_X5_entry_2 : List sw_I := [sw_ld 0 4, sw_push (.int 8), sw_ic 3 5 [true, true, true, true, false], sw_ld 0 2, sw_ld 2 0, sw_gf 4 3, sw_ld 0 3, sw_cv 24 m_J2_get 1, sw_ct [6], sw_ld 0 4, sw_cv 6 m_X7_reads 1, sw_iz 5 3 [true, true, false, true, true], sw_ld 0 1, sw_ld 0 4, sw_cs m_X1_has 2, sw_iz 1 3 [true, true, false, true, true], sw_push (.int 1), sw_ld 0 4, sw_ii (fun x y => x <<< (y &&& 31)), sw_goto 4 [true, true, false, true, true]]
def bb_X5_entry_3 : List sw_I := [sw_push (.int 0), sw_goto 4 [true, true, false, true, true]]
def bb_X5_entry_4 : List sw_I := [sw_ii (fun x y => x ||| y), sw_sti 2, sw_inc 4 1, sw_goto 2 [true, true, true, true, true]]
def bb_X5_entry_5 : List sw_I := [sw_ld 0 1, sw_ld 2 0, sw_gf 4 3, sw_ld 0 3, sw_cv 24 m_J2_get 1, sw_ct [6], sw_gf 6 1, sw_push (.int 8), sw_ic 3 6 [true, false, true, true, false], sw_push (.int 1), sw_ld 2 0, sw_gf 4 3, sw_ld 0 3, sw_cv 24 m_J2_get 1, sw_ct [6], sw_gf 6 1, sw_ii (fun x y => x <<< (y &&& 31)), sw_goto 7 [true, false, true, true, false]]
def bb_X5_entry_6 : List sw_I := [sw_push (.int 0), sw_goto 7 [true, false, true, true, false]]
def bb_X5_entry_7 : List sw_I := [sw_ii (fun x y => x ||| y), sw_sti 1, sw_inc 3 1, sw_goto 1 [true, true, true, true, false]]
def bb_X5_entry_8 : List sw_I := [sw_ld 0 2, sw_ld 2 0, sw_gf 4 0, sw_gf 1 3, sw_ld 0 1, sw_push (.int (-1)), sw_ii (fun x y => x ^^^ y), sw_ii (fun x y => x &&& y), sw_ii (fun x y => x ||| y), sw_rv 0]
def b_X5_entry : sw_B := fun n => match n with
  | 0 => bb_X5_entry_0
  | 1 => bb_X5_entry_1
  | 2 => bb_X5_entry_2
  | 3 => bb_X5_entry_3
  | 4 => bb_X5_entry_4
  | 5 => bb_X5_entry_5
  | 6 => bb_X5_entry_6
  | 7 => bb_X5_entry_7
  | 8 => bb_X5_entry_8
  | _ => []
/-! SpillslotWorks$Order.<init>(Ljava/util/List;LSpillslotWorks$Machine;)V -/
def bb_X6_init_0 : List sw_I := [sw_ld 2 0, sw_oin, sw_ld 2 0, sw_nw 24 [.int 0, .null, .int 0], sw_dup, sw_ci m_J2_init 0, sw_pf 5 2 2, sw_ld 2 0, sw_ld 2 1, sw_pf 5 0 2, sw_ld 2 0, sw_ld 2 2, sw_pf 5 1 2, sw_ld 2 0, sw_ld 2 1, sw_cv 24 m_J2_size 0, sw_na 69, sw_pf 5 3 2, sw_ld 2 0, sw_ld 2 1, sw_cv 24 m_J2_size 0, sw_na 64, sw_pf 5 4 2, sw_push (.int 0), sw_sti 3, sw_goto 1 [true, true, false, true]]
def bb_X6_init_1 : List sw_I := [sw_ld 0 3, sw_ld 2 0, sw_gf 5 4, sw_al, sw_ic 3 2 [true, true, false, false], sw_ld 2 0, sw_gf 5 3, sw_ld 0 3, sw_ld 2 0, sw_ld 0 3, sw_cv 5 m_X6_needsOf 1, sw_asr 69 [65], sw_inc 3 1, sw_goto 1 [true, true, false, true]]
def bb_X6_init_2 : List sw_I := [sw_ld 2 0, sw_gf 5 4, sw_al, sw_push (.int 1), sw_ii (fun x y => x - y), sw_sti 3, sw_goto 3 [true, true, false, true]]
def bb_X6_init_3 : List sw_I := [sw_ld 0 3, sw_iz 2 6 [false, false, false, false], sw_ld 2 1, sw_ld 0 3, sw_cv 24 m_J2_get 1, sw_ct [6], sw_ld 2 1, sw_ld 0 3, sw_cv 24 m_J2_get 1, sw_ct [6], sw_gf 6 4, sw_push (.int (-1)), sw_ic 1 4 [true, true, false, true], sw_push (.int 0), sw_goto 5 [true, true, false, true]]
def bb_X6_init_4 : List sw_I := [sw_ld 2 0, sw_ld 0 3, sw_cv 5 m_X6_heightOf 1, sw_goto 5 [true, true, false, true]]
def bb_X6_init_5 : List sw_I := [sw_pf 6 5 0, sw_inc 3 (-1), sw_goto 3 [true, true, false, true]]
def bb_X6_init_6 : List sw_I := [sw_ret]
def b_X6_init : sw_B := fun n => match n with
  | 0 => bb_X6_init_0
  | 1 => bb_X6_init_1
  | 2 => bb_X6_init_2
  | 3 => bb_X6_init_3
  | 4 => bb_X6_init_4
  | 5 => bb_X6_init_5
  | 6 => bb_X6_init_6
  | _ => []
/-! SpillslotWorks$Order.needsOf(I)[Z -/
def bb_X6_needsOf_0 : List sw_I := [sw_ld 0 1, sw_na 65, sw_sta 2, sw_push (.int 0), sw_sti 3, sw_goto 1 [true, true, true, true]]
def bb_X6_needsOf_1 : List sw_I := [sw_ld 0 3, sw_ld 0 1, sw_ic 3 6 [false, false, true, false], sw_ld 2 2, sw_ld 0 3, sw_ld 2 0, sw_gf 5 0, sw_ld 0 3, sw_cv 24 m_J2_get 1, sw_ct [6], sw_gf 6 4, sw_ld 2 0, sw_gf 5 0, sw_ld 0 1, sw_cv 24 m_J2_get 1, sw_ct [6], sw_gf 6 4, sw_ic 1 2 [true, true, true, true], sw_ld 2 0, sw_gf 5 0, sw_ld 0 1, sw_cv 24 m_J2_get 1, sw_ct [6], sw_ld 2 0, sw_gf 5 0, sw_ld 0 3, sw_cv 24 m_J2_get 1, sw_ct [6], sw_cv 6 m_X7_needs 1, sw_iz 0 2 [true, true, true, true], sw_push (.int 1), sw_goto 3 [true, true, true, true]]
def bb_X6_needsOf_2 : List sw_I := [sw_push (.int 0), sw_goto 3 [true, true, true, true]]
def bb_X6_needsOf_3 : List sw_I := [sw_ast 65, sw_ld 2 0, sw_gf 5 4, sw_ld 0 1, sw_du2, sw_ald 64, sw_ld 2 2, sw_ld 0 3, sw_ald 65, sw_iz 0 4 [true, true, true, true], sw_push (.int 1), sw_goto 5 [true, true, true, true]]
def bb_X6_needsOf_4 : List sw_I := [sw_push (.int 0), sw_goto 5 [true, true, true, true]]
def bb_X6_needsOf_5 : List sw_I := [sw_ii (fun x y => x + y), sw_ast 64, sw_inc 3 1, sw_goto 1 [true, true, true, true]]
def bb_X6_needsOf_6 : List sw_I := [sw_ld 2 2, sw_rv 2]
def b_X6_needsOf : sw_B := fun n => match n with
  | 0 => bb_X6_needsOf_0
  | 1 => bb_X6_needsOf_1
  | 2 => bb_X6_needsOf_2
  | 3 => bb_X6_needsOf_3
  | 4 => bb_X6_needsOf_4
  | 5 => bb_X6_needsOf_5
  | 6 => bb_X6_needsOf_6
  | _ => []
/-! SpillslotWorks$Order.heightOf(I)I -/
def bb_X6_heightOf_0 : List sw_I := [sw_push (.int 0), sw_sti 2, sw_ld 0 1, sw_push (.int 1), sw_ii (fun x y => x + y), sw_sti 3, sw_goto 1 [true, true, true, true]]
def bb_X6_heightOf_1 : List sw_I := [sw_ld 0 3, sw_ld 2 0, sw_gf 5 4, sw_al, sw_ic 3 4 [true, true, true, false], sw_ld 2 0, sw_gf 5 3, sw_ld 0 3, sw_ald 69, sw_ld 0 1, sw_ald 65, sw_iz 0 2 [true, true, true, true], sw_ld 0 2, sw_ld 2 0, sw_gf 5 0, sw_ld 0 3, sw_cv 24 m_J2_get 1, sw_ct [6], sw_gf 6 5, sw_mm sw_max, sw_goto 3 [true, true, false, true]]
def bb_X6_heightOf_2 : List sw_I := [sw_ld 0 2, sw_goto 3 [true, true, false, true]]
def bb_X6_heightOf_3 : List sw_I := [sw_sti 2, sw_inc 3 1, sw_goto 1 [true, true, true, true]]
def bb_X6_heightOf_4 : List sw_I := [sw_ld 2 0, sw_gf 5 1, sw_ld 2 0, sw_gf 5 0, sw_ld 0 1, sw_cv 24 m_J2_get 1, sw_ct [6], sw_gf 6 0, sw_cv 2 m_X3_latency 1, sw_ld 0 2, sw_ii (fun x y => x + y), sw_rv 0]
def b_X6_heightOf : sw_B := fun n => match n with
  | 0 => bb_X6_heightOf_0
  | 1 => bb_X6_heightOf_1
  | 2 => bb_X6_heightOf_2
  | 3 => bb_X6_heightOf_3
  | 4 => bb_X6_heightOf_4
  | _ => []
/-! SpillslotWorks$Order.all(Z)Ljava/util/List; -/
def bb_X6_all_0 : List sw_I := [sw_ld 0 1, sw_iz 0 1 [true, false, false, false], sw_ld 2 0, sw_gf 5 0, sw_rv 2]
def bb_X6_all_1 : List sw_I := [sw_push (.int 0), sw_sti 2, sw_goto 2 [true, false, true, false]]
def bb_X6_all_2 : List sw_I := [sw_ld 0 2, sw_ld 2 0, sw_gf 5 4, sw_al, sw_ic 3 3 [true, false, false, false], sw_ld 2 0, sw_gf 5 0, sw_ld 0 2, sw_cv 24 m_J2_get 1, sw_ct [6], sw_gf 6 4, sw_push (.int (-1)), sw_ic 1 3 [true, false, false, false], sw_ld 2 0, sw_ld 0 2, sw_cv 5 m_X6_place 1, sw_inc 2 1, sw_goto 2 [true, false, true, false]]
def bb_X6_all_3 : List sw_I := [sw_push (.int 0), sw_sti 2, sw_goto 4 [true, false, true, false]]
def bb_X6_all_4 : List sw_I := [sw_ld 0 2, sw_push (.int 4), sw_ic 3 7 [true, false, false, false], sw_ld 2 0, sw_ld 0 2, sw_cv 5 m_X6_next 1, sw_sti 3, sw_goto 5 [true, false, true, true]]
def bb_X6_all_5 : List sw_I := [sw_ld 0 3, sw_push (.int (-1)), sw_ic 0 6 [true, false, true, false], sw_ld 2 0, sw_ld 0 3, sw_cv 5 m_X6_place 1, sw_ld 2 0, sw_ld 0 2, sw_cv 5 m_X6_next 1, sw_sti 3, sw_goto 5 [true, false, true, true]]
def bb_X6_all_6 : List sw_I := [sw_inc 2 1, sw_goto 4 [true, false, true, false]]
def bb_X6_all_7 : List sw_I := [sw_ld 2 0, sw_gf 5 2, sw_rv 2]
def b_X6_all : sw_B := fun n => match n with
  | 0 => bb_X6_all_0
  | 1 => bb_X6_all_1
  | 2 => bb_X6_all_2
  | 3 => bb_X6_all_3
  | 4 => bb_X6_all_4
  | 5 => bb_X6_all_5
  | 6 => bb_X6_all_6
  | 7 => bb_X6_all_7
  | _ => []
/-! SpillslotWorks$Order.place(I)V -/
def bb_X6_place_0 : List sw_I := [sw_ld 2 0, sw_gf 5 2, sw_ld 2 0, sw_gf 5 0, sw_ld 0 1, sw_cv 24 m_J2_get 1, sw_ct [6], sw_cv 24 m_J2_add 1, sw_pop, sw_ld 2 0, sw_gf 5 4, sw_ld 0 1, sw_push (.int (-1)), sw_ast 64, sw_ld 0 1, sw_push (.int 1), sw_ii (fun x y => x + y), sw_sti 2, sw_goto 1 [true, true, true]]
def bb_X6_place_1 : List sw_I := [sw_ld 0 2, sw_ld 2 0, sw_gf 5 4, sw_al, sw_ic 3 4 [false, false, false], sw_ld 2 0, sw_gf 5 4, sw_ld 0 2, sw_du2, sw_ald 64, sw_ld 2 0, sw_gf 5 3, sw_ld 0 2, sw_ald 69, sw_ld 0 1, sw_ald 65, sw_iz 0 2 [true, true, true], sw_push (.int 1), sw_goto 3 [true, true, true]]
def bb_X6_place_2 : List sw_I := [sw_push (.int 0), sw_goto 3 [true, true, true]]
def bb_X6_place_3 : List sw_I := [sw_ii (fun x y => x - y), sw_ast 64, sw_inc 2 1, sw_goto 1 [true, true, true]]
def bb_X6_place_4 : List sw_I := [sw_ret]
def b_X6_place : sw_B := fun n => match n with
  | 0 => bb_X6_place_0
  | 1 => bb_X6_place_1
  | 2 => bb_X6_place_2
  | 3 => bb_X6_place_3
  | 4 => bb_X6_place_4
  | _ => []
/-! SpillslotWorks$Order.next(I)I -/
def bb_X6_next_0 : List sw_I := [sw_push (.int (-1)), sw_sti 2, sw_push (.int 0), sw_sti 3, sw_goto 1 [true, true, true, true, false]]
def bb_X6_next_1 : List sw_I := [sw_ld 0 3, sw_ld 2 0, sw_gf 5 4, sw_al, sw_ic 3 6 [false, false, true, false, false], sw_ld 2 0, sw_gf 5 4, sw_ld 0 3, sw_ald 64, sw_iz 1 2 [true, true, true, true, false], sw_ld 2 0, sw_gf 5 0, sw_ld 0 3, sw_cv 24 m_J2_get 1, sw_ct [6], sw_gf 6 4, sw_ld 0 1, sw_ic 1 2 [true, true, true, true, false], sw_push (.int 1), sw_goto 3 [true, true, true, true, false]]
def bb_X6_next_2 : List sw_I := [sw_push (.int 0), sw_goto 3 [true, true, true, true, false]]
def bb_X6_next_3 : List sw_I := [sw_sti 4, sw_ld 0 4, sw_iz 0 5 [true, true, true, true, false], sw_ld 0 2, sw_push (.int (-1)), sw_ic 0 4 [true, true, false, true, false], sw_ld 2 0, sw_gf 5 0, sw_ld 0 3, sw_cv 24 m_J2_get 1, sw_ct [6], sw_gf 6 5, sw_ld 2 0, sw_gf 5 0, sw_ld 0 2, sw_cv 24 m_J2_get 1, sw_ct [6], sw_gf 6 5, sw_ic 5 5 [true, true, true, true, false], sw_goto 4 [true, true, false, true, false]]
def bb_X6_next_4 : List sw_I := [sw_ld 0 3, sw_sti 2, sw_goto 5 [true, true, true, true, false]]
def bb_X6_next_5 : List sw_I := [sw_inc 3 1, sw_goto 1 [true, true, true, true, false]]
def bb_X6_next_6 : List sw_I := [sw_ld 0 2, sw_rv 0]
def b_X6_next : sw_B := fun n => match n with
  | 0 => bb_X6_next_0
  | 1 => bb_X6_next_1
  | 2 => bb_X6_next_2
  | 3 => bb_X6_next_3
  | 4 => bb_X6_next_4
  | 5 => bb_X6_next_5
  | 6 => bb_X6_next_6
  | _ => []
/-! SpillslotWorks$Op.<init>(IIII[I)V -/
def bb_X7_init_0 : List sw_I := [sw_ld 2 0, sw_oin, sw_ld 2 0, sw_ld 0 1, sw_pf 6 0 0, sw_ld 2 0, sw_ld 0 2, sw_pf 6 1 0, sw_ld 2 0, sw_ld 0 3, sw_pf 6 3 0, sw_ld 2 0, sw_ld 0 4, sw_pf 6 4 0, sw_ld 2 0, sw_ld 2 5, sw_pf 6 2 2, sw_ret]
def b_X7_init : sw_B := fun n => match n with
  | 0 => bb_X7_init_0
  | _ => []
/-! SpillslotWorks$Op.reads(I)I -/
def bb_X7_reads_0 : List sw_I := [sw_push (.int 0), sw_sti 2, sw_ld 2 0, sw_gf 6 2, sw_sta 3, sw_ld 2 3, sw_al, sw_sti 4, sw_push (.int 0), sw_sti 5, sw_goto 1 [false, true, true, true, true, true, false]]
def bb_X7_reads_1 : List sw_I := [sw_ld 0 5, sw_ld 0 4, sw_ic 3 4 [false, false, true, false, false, false, false], sw_ld 2 3, sw_ld 0 5, sw_ald 64, sw_sti 6, sw_ld 0 2, sw_ld 0 6, sw_ld 0 1, sw_ic 1 2 [false, true, false, true, true, true, false], sw_push (.int 1), sw_goto 3 [false, true, false, true, true, true, false]]
def bb_X7_reads_2 : List sw_I := [sw_push (.int 0), sw_goto 3 [false, true, false, true, true, true, false]]
def bb_X7_reads_3 : List sw_I := [sw_ii (fun x y => x + y), sw_sti 2, sw_inc 5 1, sw_goto 1 [false, true, true, true, true, true, false]]
def bb_X7_reads_4 : List sw_I := [sw_ld 0 2, sw_rv 0]
def b_X7_reads : sw_B := fun n => match n with
  | 0 => bb_X7_reads_0
  | 1 => bb_X7_reads_1
  | 2 => bb_X7_reads_2
  | 3 => bb_X7_reads_3
  | 4 => bb_X7_reads_4
  | _ => []
/-! SpillslotWorks$Op.needs(LSpillslotWorks$Op;)Z -/
def bb_X7_needs_0 : List sw_I := [sw_ld 2 0, sw_ld 2 1, sw_gf 6 1, sw_cv 6 m_X7_reads 1, sw_iz 4 1 [true, true, false], sw_ld 2 0, sw_gf 6 1, sw_ld 2 1, sw_gf 6 1, sw_ic 0 1 [true, true, false], sw_ld 2 1, sw_ld 2 0, sw_gf 6 1, sw_cv 6 m_X7_reads 1, sw_iz 5 2 [true, true, false], sw_goto 1 [true, true, false]]
def bb_X7_needs_1 : List sw_I := [sw_push (.int 1), sw_goto 3 [true, true, false]]
def bb_X7_needs_2 : List sw_I := [sw_push (.int 0), sw_goto 3 [true, true, false]]
def bb_X7_needs_3 : List sw_I := [sw_sti 2, sw_ld 0 2, sw_iz 1 4 [false, false, false], sw_ld 2 0, sw_push (.int 9), sw_cv 6 m_X7_is 1, sw_iz 0 5 [false, false, false], sw_ld 2 1, sw_push (.int 9), sw_cv 6 m_X7_is 1, sw_iz 0 5 [false, false, false], sw_goto 4 [false, false, false]]
def bb_X7_needs_4 : List sw_I := [sw_push (.int 1), sw_goto 6 [false, false, false]]
def bb_X7_needs_5 : List sw_I := [sw_push (.int 0), sw_goto 6 [false, false, false]]
def bb_X7_needs_6 : List sw_I := [sw_rv 1]
def b_X7_needs : sw_B := fun n => match n with
  | 0 => bb_X7_needs_0
  | 1 => bb_X7_needs_1
  | 2 => bb_X7_needs_2
  | 3 => bb_X7_needs_3
  | 4 => bb_X7_needs_4
  | 5 => bb_X7_needs_5
  | 6 => bb_X7_needs_6
  | _ => []
/-! SpillslotWorks$Op.is(I)Z -/
def bb_X7_is_0 : List sw_I := [sw_ld 2 0, sw_gf 6 0, sw_ld 0 1, sw_ic 1 1 [false, false], sw_push (.int 1), sw_goto 2 [false, false]]
def bb_X7_is_1 : List sw_I := [sw_push (.int 0), sw_goto 2 [false, false]]
def bb_X7_is_2 : List sw_I := [sw_rv 1]
def b_X7_is : sw_B := fun n => match n with
  | 0 => bb_X7_is_0
  | 1 => bb_X7_is_1
  | 2 => bb_X7_is_2
  | _ => []
/-! SpillslotWorks$Lives.<init>(Ljava/util/List;LSpillslotWorks$Program;LSpillslotWorks$Machine;I)V -/
def bb_X8_init_0 : List sw_I := [sw_ld 2 0, sw_oin, sw_ld 2 0, sw_nw 24 [.int 0, .null, .int 0], sw_dup, sw_ci m_J2_init 0, sw_pf 7 3 2, sw_ld 2 0, sw_ld 2 1, sw_pf 7 0 2, sw_ld 2 0, sw_ld 2 2, sw_pf 7 1 2, sw_ld 2 0, sw_ld 2 3, sw_pf 7 2 2, sw_push (.int 0), sw_sti 5, sw_goto 1 [true, false, false, false, true, true, false]]
def bb_X8_init_1 : List sw_I := [sw_ld 0 5, sw_ld 0 4, sw_ic 3 3 [true, false, false, false, false, false, false], sw_ld 2 0, sw_ld 0 5, sw_cv 7 m_X8_lifeOf 1, sw_sta 6, sw_ld 2 6, sw_gf 8 1, sw_push (.int (-1)), sw_ic 0 2 [true, false, false, false, true, true, false], sw_ld 2 0, sw_ld 2 6, sw_cv 7 m_X8_stretch 1, sw_ld 2 0, sw_ld 2 6, sw_cv 7 m_X8_put 1, sw_goto 2 [true, false, false, false, true, true, false]]
def bb_X8_init_2 : List sw_I := [sw_inc 5 1, sw_goto 1 [true, false, false, false, true, true, false]]
def bb_X8_init_3 : List sw_I := [sw_push (.int 0), sw_sti 5, sw_goto 4 [true, false, false, false, false, true, false]]
def bb_X8_init_4 : List sw_I := [sw_ld 0 5, sw_ld 2 0, sw_gf 7 3, sw_cv 24 m_J2_size 0, sw_ic 3 5 [true, false, false, false, false, false, false], sw_ld 2 0, sw_ld 2 0, sw_gf 7 3, sw_ld 0 5, sw_cv 24 m_J2_get 1, sw_ct [8], sw_cv 7 m_X8_give 1, sw_inc 5 1, sw_goto 4 [true, false, false, false, false, true, false]]
def bb_X8_init_5 : List sw_I := [sw_ld 2 0, sw_cv 7 m_X8_giveSlots 0, sw_ret]
def b_X8_init : sw_B := fun n => match n with
  | 0 => bb_X8_init_0
  | 1 => bb_X8_init_1
  | 2 => bb_X8_init_2
  | 3 => bb_X8_init_3
  | 4 => bb_X8_init_4
  | 5 => bb_X8_init_5
  | _ => []
/-! SpillslotWorks$Lives.lifeOf(I)LSpillslotWorks$Life; -/
def bb_X8_lifeOf_0 : List sw_I := [sw_nw 8 [.int 0, .int 0, .int 0, .int 0, .int 0, .int 0, .int 0, .int 0, .int 0, .int 0, .null], sw_dup, sw_ld 0 1, sw_ci m_X9_init 1, sw_sta 2, sw_push (.int 0), sw_sti 3, sw_goto 1 [true, true, true, true, false]]
def bb_X8_lifeOf_1 : List sw_I := [sw_ld 0 3, sw_ld 2 0, sw_gf 7 0, sw_cv 24 m_J2_size 0, sw_ic 3 4 [false, false, true, false, false], sw_ld 2 0, sw_gf 7 0, sw_ld 0 3, sw_cv 24 m_J2_get 1, sw_ct [6], sw_sta 4, sw_ld 2 4, sw_gf 6 1, sw_ld 0 1, sw_ic 0 2 [true, true, true, true, true], sw_ld 2 4, sw_ld 0 1, sw_cv 6 m_X7_reads 1, sw_iz 5 3 [true, true, true, true, false], sw_goto 2 [true, true, true, true, true]]
def bb_X8_lifeOf_2 : List sw_I := [sw_ld 2 2, sw_ld 0 3, sw_ld 2 4, sw_ld 2 0, sw_ld 2 4, sw_cv 7 m_X8_timesOf 1, sw_cv 8 m_X9_touch 3, sw_goto 3 [true, true, true, true, false]]
def bb_X8_lifeOf_3 : List sw_I := [sw_inc 3 1, sw_goto 1 [true, true, true, true, false]]
def bb_X8_lifeOf_4 : List sw_I := [sw_ld 2 2, sw_rv 2]
def b_X8_lifeOf : sw_B := fun n => match n with
  | 0 => bb_X8_lifeOf_0
  | 1 => bb_X8_lifeOf_1
  | 2 => bb_X8_lifeOf_2
  | 3 => bb_X8_lifeOf_3
  | 4 => bb_X8_lifeOf_4
  | _ => []
/-! SpillslotWorks$Lives.timesOf(LSpillslotWorks$Op;)I -/
def bb_X8_timesOf_0 : List sw_I := [sw_ld 2 1, sw_gf 6 4, sw_push (.int (-1)), sw_ic 1 1 [true, true], sw_push (.int 1), sw_goto 2 [false, false]]
def bb_X8_timesOf_1 : List sw_I := [sw_ld 2 0, sw_gf 7 1, sw_gf 1 2, sw_ld 2 1, sw_gf 6 4, sw_ald 64, sw_goto 2 [false, false]]
def bb_X8_timesOf_2 : List sw_I := [sw_rv 0]
def b_X8_timesOf : sw_B := fun n => match n with
  | 0 => bb_X8_timesOf_0
  | 1 => bb_X8_timesOf_1
  | 2 => bb_X8_timesOf_2
  | _ => []
/-! SpillslotWorks$Lives.stretch(LSpillslotWorks$Life;)V -/
def bb_X8_stretch_0 : List sw_I := [sw_ld 2 0, sw_gf 7 0, sw_ld 2 1, sw_gf 8 2, sw_cv 24 m_J2_get 1, sw_ct [6], sw_gf 6 4, sw_sti 2, sw_ld 2 1, sw_gf 8 0, sw_push (.int 8), sw_ic 3 1 [true, true, true, false], sw_ld 2 0, sw_gf 7 1, sw_gf 1 3, sw_ld 2 1, sw_gf 8 0, sw_cs m_X1_has 2, sw_iz 0 1 [true, true, true, false], sw_ld 2 1, sw_ld 2 0, sw_gf 7 0, sw_cv 24 m_J2_size 0, sw_pf 8 2 0, sw_goto 2 [true, true, false, false]]
def bb_X8_stretch_1 : List sw_I := [sw_ld 0 2, sw_push (.int (-1)), sw_ic 0 2 [true, true, false, false], sw_ld 2 0, sw_gf 7 1, sw_gf 1 2, sw_ld 0 2, sw_ald 64, sw_push (.int 1), sw_ic 5 2 [true, true, false, false], sw_ld 2 1, sw_gf 8 1, sw_ld 2 0, sw_ld 0 2, sw_push (.int 0), sw_cv 7 m_X8_edge 2, sw_ic 3 2 [true, true, false, false], sw_ld 2 1, sw_ld 2 0, sw_ld 0 2, sw_push (.int 1), sw_cv 7 m_X8_edge 2, sw_pf 8 2 0, sw_goto 2 [true, true, false, false]]
def bb_X8_stretch_2 : List sw_I := [sw_push (.int 0), sw_sti 3, sw_goto 3 [true, true, false, true]]
def bb_X8_stretch_3 : List sw_I := [sw_ld 0 3, sw_ld 2 0, sw_gf 7 0, sw_cv 24 m_J2_size 0, sw_ic 3 6 [false, false, false, false], sw_ld 2 1, sw_dup, sw_gf 8 6, sw_ld 2 0, sw_gf 7 0, sw_ld 0 3, sw_cv 24 m_J2_get 1, sw_ct [6], sw_push (.int 9), sw_cv 6 m_X7_is 1, sw_iz 0 4 [true, true, false, true], sw_ld 2 1, sw_ld 0 3, sw_cv 8 m_X9_crosses 1, sw_iz 0 4 [true, true, false, true], sw_push (.int 1), sw_goto 5 [true, true, false, true]]
def bb_X8_stretch_4 : List sw_I := [sw_push (.int 0), sw_goto 5 [true, true, false, true]]
def bb_X8_stretch_5 : List sw_I := [sw_ii (fun x y => x + y), sw_pf 8 6 0, sw_inc 3 1, sw_goto 3 [true, true, false, true]]
def bb_X8_stretch_6 : List sw_I := [sw_ret]
def b_X8_stretch : sw_B := fun n => match n with
  | 0 => bb_X8_stretch_0
  | 1 => bb_X8_stretch_1
  | 2 => bb_X8_stretch_2
  | 3 => bb_X8_stretch_3
  | 4 => bb_X8_stretch_4
  | 5 => bb_X8_stretch_5
  | 6 => bb_X8_stretch_6
  | _ => []
/-! SpillslotWorks$Lives.edge(IZ)I -/
def bb_X8_edge_0 : List sw_I := [sw_push (.int (-1)), sw_sti 3, sw_push (.int 0), sw_sti 4, sw_goto 1 [true, true, true, true, true]]
def bb_X8_edge_1 : List sw_I := [sw_ld 0 4, sw_ld 2 0, sw_gf 7 0, sw_cv 24 m_J2_size 0, sw_ic 3 6 [false, false, false, true, false], sw_ld 2 0, sw_gf 7 0, sw_ld 0 4, sw_cv 24 m_J2_get 1, sw_ct [6], sw_gf 6 4, sw_ld 0 1, sw_ic 1 5 [true, true, true, true, true], sw_ld 0 2, sw_iz 0 2 [true, true, true, true, true], sw_ld 0 4, sw_push (.int 1), sw_ii (fun x y => x + y), sw_goto 4 [true, true, true, false, true]]
def bb_X8_edge_2 : List sw_I := [sw_ld 0 3, sw_push (.int (-1)), sw_ic 1 3 [true, true, true, true, true], sw_ld 0 4, sw_goto 4 [true, true, true, false, true]]
def bb_X8_edge_3 : List sw_I := [sw_ld 0 3, sw_goto 4 [true, true, true, false, true]]
def bb_X8_edge_4 : List sw_I := [sw_sti 3, sw_goto 5 [true, true, true, true, true]]
def bb_X8_edge_5 : List sw_I := [sw_inc 4 1, sw_goto 1 [true, true, true, true, true]]
def bb_X8_edge_6 : List sw_I := [sw_ld 0 3, sw_rv 0]
def b_X8_edge : sw_B := fun n => match n with
  | 0 => bb_X8_edge_0
  | 1 => bb_X8_edge_1
  | 2 => bb_X8_edge_2
  | 3 => bb_X8_edge_3
  | 4 => bb_X8_edge_4
  | 5 => bb_X8_edge_5
  | 6 => bb_X8_edge_6
  | _ => []
/-! SpillslotWorks$Lives.put(LSpillslotWorks$Life;)V -/
def bb_X8_put_0 : List sw_I := [sw_ld 2 0, sw_gf 7 3, sw_cv 24 m_J2_size 0, sw_sti 2, sw_goto 1 [true, true, true]]
def bb_X8_put_1 : List sw_I := [sw_ld 0 2, sw_iz 5 2 [true, true, true], sw_ld 2 0, sw_gf 7 3, sw_ld 0 2, sw_push (.int 1), sw_ii (fun x y => x - y), sw_cv 24 m_J2_get 1, sw_ct [8], sw_gf 8 1, sw_ld 2 1, sw_gf 8 1, sw_ic 5 2 [true, true, true], sw_inc 2 (-1), sw_goto 1 [true, true, true]]
def bb_X8_put_2 : List sw_I := [sw_ld 2 0, sw_gf 7 3, sw_ld 0 2, sw_ld 2 1, sw_cv 24 m_J2_add_3 2, sw_ret]
def b_X8_put : sw_B := fun n => match n with
  | 0 => bb_X8_put_0
  | 1 => bb_X8_put_1
  | 2 => bb_X8_put_2
  | _ => []
/-! SpillslotWorks$Lives.give(LSpillslotWorks$Life;)V -/
def bb_X8_give_0 : List sw_I := [sw_ld 2 0, sw_ld 2 1, sw_ld 2 0, sw_ld 2 1, sw_cv 7 m_X8_hint 1, sw_cv 7 m_X8_canTake 2, sw_iz 0 1 [true, true, false, false, false, false], sw_ld 2 1, sw_ld 2 0, sw_ld 2 1, sw_cv 7 m_X8_hint 1, sw_pf 8 7 0, sw_ret]
def bb_X8_give_1 : List sw_I := [sw_push (.int 0), sw_sti 2, sw_goto 2 [true, true, true, false, false, false]]
def bb_X8_give_2 : List sw_I := [sw_ld 0 2, sw_ld 2 0, sw_gf 7 2, sw_cv 2 m_X3_scratch 0, sw_ic 3 4 [true, true, false, false, false, false], sw_ld 2 0, sw_ld 2 1, sw_ld 0 2, sw_cv 7 m_X8_canTake 2, sw_iz 0 3 [true, true, true, false, false, false], sw_ld 2 1, sw_ld 0 2, sw_pf 8 7 0, sw_ret]
def bb_X8_give_3 : List sw_I := [sw_inc 2 1, sw_goto 2 [true, true, true, false, false, false]]
def bb_X8_give_4 : List sw_I := [sw_ld 2 1, sw_sta 2, sw_push (.int 0), sw_sti 3, sw_goto 5 [true, true, true, true, false, false]]
def bb_X8_give_5 : List sw_I := [sw_ld 0 3, sw_ld 2 0, sw_gf 7 3, sw_cv 24 m_J2_size 0, sw_ic 3 10 [false, true, true, false, false, false], sw_ld 2 0, sw_gf 7 3, sw_ld 0 3, sw_cv 24 m_J2_get 1, sw_ct [8], sw_sta 4, sw_ld 2 0, sw_ld 2 4, sw_ld 2 1, sw_gf 8 1, sw_cv 7 m_X8_isHeld 2, sw_iz 0 6 [true, true, true, true, true, false], sw_ld 2 0, sw_ld 2 1, sw_ld 2 4, sw_gf 8 7, sw_cv 7 m_X8_canHave 2, sw_iz 0 6 [true, true, true, true, true, false], sw_push (.int 1), sw_goto 7 [true, true, true, true, true, false]]
def bb_X8_give_6 : List sw_I := [sw_push (.int 0), sw_goto 7 [true, true, true, true, true, false]]
def bb_X8_give_7 : List sw_I := [sw_sti 5, sw_ld 0 5, sw_iz 0 8 [true, true, true, true, false, false], sw_ld 2 4, sw_ld 2 2, sw_cs m_X8_isLess 2, sw_iz 0 8 [true, true, true, true, false, false], sw_ld 2 4, sw_goto 9 [true, true, false, true, false, false]]
def bb_X8_give_8 : List sw_I := [sw_ld 2 2, sw_goto 9 [true, true, false, true, false, false]]
def bb_X8_give_9 : List sw_I := [sw_sta 2, sw_inc 3 1, sw_goto 5 [true, true, true, true, false, false]]
def bb_X8_give_10 : List sw_I := [sw_ld 2 2, sw_gf 8 7, sw_sti 3, sw_ld 2 2, sw_push (.int 1), sw_pf 8 8 1, sw_ld 2 2, sw_push (.int (-1)), sw_pf 8 7 0, sw_ld 2 1, sw_ld 2 2, sw_ld 2 1, sw_iac false 11 [false, false, false, true, false, false], sw_push (.int (-1)), sw_goto 12 [false, false, false, false, false, false]]
def bb_X8_give_11 : List sw_I := [sw_ld 0 3, sw_goto 12 [false, false, false, false, false, false]]
def bb_X8_give_12 : List sw_I := [sw_pf 8 7 0, sw_ret]
def b_X8_give : sw_B := fun n => match n with
  | 0 => bb_X8_give_0
  | 1 => bb_X8_give_1
  | 2 => bb_X8_give_2
  | 3 => bb_X8_give_3
  | 4 => bb_X8_give_4
  | 5 => bb_X8_give_5
  | 6 => bb_X8_give_6
  | 7 => bb_X8_give_7
  | 8 => bb_X8_give_8
  | 9 => bb_X8_give_9
  | 10 => bb_X8_give_10
  | 11 => bb_X8_give_11
  | 12 => bb_X8_give_12
  | _ => []
/-! SpillslotWorks$Lives.hint(LSpillslotWorks$Life;)I -/
def bb_X8_hint_0 : List sw_I := [sw_ld 2 1, sw_gf 8 10, sw_sta 2, sw_ld 2 2, sw_push (.int 1), sw_cv 6 m_X7_is 1, sw_iz 1 1 [true, false, true, false], sw_ld 2 0, sw_gf 7 2, sw_gf 2 4, sw_iz 0 2 [true, false, true, false], sw_ld 2 2, sw_push (.int 2), sw_cv 6 m_X7_is 1, sw_iz 1 1 [true, false, true, false], sw_ld 2 2, sw_push (.int 3), sw_cv 6 m_X7_is 1, sw_iz 1 1 [true, false, true, false], sw_ld 2 2, sw_push (.int 4), sw_cv 6 m_X7_is 1, sw_iz 0 2 [true, false, true, false], sw_goto 1 [true, false, true, false]]
def bb_X8_hint_1 : List sw_I := [sw_push (.int 1), sw_goto 3 [true, false, true, false]]
def bb_X8_hint_2 : List sw_I := [sw_push (.int 0), sw_goto 3 [true, false, true, false]]
def bb_X8_hint_3 : List sw_I := [sw_sti 3, sw_ld 0 3, sw_iz 0 4 [false, false, false, false], sw_ld 2 0, sw_ld 2 2, sw_gf 6 2, sw_push (.int 0), sw_ald 64, sw_cv 7 m_X8_of 1, sw_gf 8 7, sw_goto 5 [false, false, false, false]]
def bb_X8_hint_4 : List sw_I := [sw_push (.int (-1)), sw_goto 5 [false, false, false, false]]
def bb_X8_hint_5 : List sw_I := [sw_rv 0]
def b_X8_hint : sw_B := fun n => match n with
  | 0 => bb_X8_hint_0
  | 1 => bb_X8_hint_1
  | 2 => bb_X8_hint_2
  | 3 => bb_X8_hint_3
  | 4 => bb_X8_hint_4
  | 5 => bb_X8_hint_5
  | _ => []
/-! SpillslotWorks$Lives.of(I)LSpillslotWorks$Life; -/
def bb_X8_of_0 : List sw_I := [sw_ld 2 0, sw_gf 7 3, sw_ld 2 0, sw_ld 0 1, sw_cv 7 m_X8_placeOf 1, sw_cv 24 m_J2_get 1, sw_ct [8], sw_rv 2]
def b_X8_of : sw_B := fun n => match n with
  | 0 => bb_X8_of_0
  | _ => []
/-! SpillslotWorks$Lives.placeOf(I)I -/
def bb_X8_placeOf_0 : List sw_I := [sw_ld 2 0, sw_gf 7 3, sw_cv 24 m_J2_size 0, sw_push (.int 1), sw_ii (fun x y => x - y), sw_sti 2, sw_goto 1 [true, true, true]]
def bb_X8_placeOf_1 : List sw_I := [sw_ld 0 2, sw_iz 2 2 [false, false, true], sw_ld 2 0, sw_gf 7 3, sw_ld 0 2, sw_cv 24 m_J2_get 1, sw_ct [8], sw_gf 8 0, sw_ld 0 1, sw_ic 0 2 [false, false, true], sw_inc 2 (-1), sw_goto 1 [true, true, true]]
def bb_X8_placeOf_2 : List sw_I := [sw_ld 0 2, sw_rv 0]
def b_X8_placeOf : sw_B := fun n => match n with
  | 0 => bb_X8_placeOf_0
  | 1 => bb_X8_placeOf_1
  | 2 => bb_X8_placeOf_2
  | _ => []
/-! SpillslotWorks$Lives.canTake(LSpillslotWorks$Life;I)Z -/
def bb_X8_canTake_0 : List sw_I := [sw_ld 0 2, sw_push (.int (-1)), sw_ic 0 1 [false, false, false], sw_ld 2 0, sw_ld 2 1, sw_ld 0 2, sw_cv 7 m_X8_canHave 2, sw_iz 0 1 [false, false, false], sw_ld 2 0, sw_ld 0 2, sw_ld 2 1, sw_gf 8 1, sw_cv 7 m_X8_isFree 2, sw_iz 0 1 [false, false, false], sw_push (.int 1), sw_goto 2 [false, false, false]]
def bb_X8_canTake_1 : List sw_I := [sw_push (.int 0), sw_goto 2 [false, false, false]]
def bb_X8_canTake_2 : List sw_I := [sw_rv 1]
def b_X8_canTake : sw_B := fun n => match n with
  | 0 => bb_X8_canTake_0
  | 1 => bb_X8_canTake_1
  | 2 => bb_X8_canTake_2
  | _ => []
/-! SpillslotWorks$Lives.canHave(LSpillslotWorks$Life;I)Z -/
def bb_X8_canHave_0 : List sw_I := [sw_ld 2 1, sw_gf 8 6, sw_iz 0 1 [false, false, false], sw_ld 2 0, sw_gf 7 2, sw_ld 0 2, sw_cv 2 m_X3_isKept 1, sw_iz 0 2 [false, false, false], sw_goto 1 [false, false, false]]
def bb_X8_canHave_1 : List sw_I := [sw_push (.int 1), sw_goto 3 [false, false, false]]
def bb_X8_canHave_2 : List sw_I := [sw_push (.int 0), sw_goto 3 [false, false, false]]
def bb_X8_canHave_3 : List sw_I := [sw_rv 1]
def b_X8_canHave : sw_B := fun n => match n with
  | 0 => bb_X8_canHave_0
  | 1 => bb_X8_canHave_1
  | 2 => bb_X8_canHave_2
  | 3 => bb_X8_canHave_3
  | _ => []
/-! SpillslotWorks$Lives.isFree(II)Z -/
def bb_X8_isFree_0 : List sw_I := [sw_push (.int 0), sw_sti 3, sw_goto 1 [true, true, true, true]]
def bb_X8_isFree_1 : List sw_I := [sw_ld 0 3, sw_ld 2 0, sw_gf 7 3, sw_cv 24 m_J2_size 0, sw_ic 3 3 [false, false, false, false], sw_ld 2 0, sw_gf 7 3, sw_ld 0 3, sw_cv 24 m_J2_get 1, sw_ct [8], sw_gf 8 7, sw_ld 0 1, sw_ic 1 2 [true, true, true, true], sw_ld 2 0, sw_ld 2 0, sw_gf 7 3, sw_ld 0 3, sw_cv 24 m_J2_get 1, sw_ct [8], sw_ld 0 2, sw_cv 7 m_X8_isHeld 2, sw_iz 0 2 [true, true, true, true], sw_push (.int 0), sw_rv 1]
def bb_X8_isFree_2 : List sw_I := [sw_inc 3 1, sw_goto 1 [true, true, true, true]]
def bb_X8_isFree_3 : List sw_I := [sw_push (.int 1), sw_rv 1]
def b_X8_isFree : sw_B := fun n => match n with
  | 0 => bb_X8_isFree_0
  | 1 => bb_X8_isFree_1
  | 2 => bb_X8_isFree_2
  | 3 => bb_X8_isFree_3
  | _ => []
/-! SpillslotWorks$Lives.isHeld(LSpillslotWorks$Life;I)Z -/
def bb_X8_isHeld_0 : List sw_I := [sw_ld 2 1, sw_gf 8 7, sw_push (.int (-1)), sw_ic 0 1 [false, false, false], sw_ld 2 1, sw_gf 8 2, sw_ld 0 2, sw_ic 5 1 [false, false, false], sw_push (.int 1), sw_goto 2 [false, false, false]]
def bb_X8_isHeld_1 : List sw_I := [sw_push (.int 0), sw_goto 2 [false, false, false]]
def bb_X8_isHeld_2 : List sw_I := [sw_rv 1]
def b_X8_isHeld : sw_B := fun n => match n with
  | 0 => bb_X8_isHeld_0
  | 1 => bb_X8_isHeld_1
  | 2 => bb_X8_isHeld_2
  | _ => []
/-! SpillslotWorks$Lives.isLess(LSpillslotWorks$Life;LSpillslotWorks$Life;)Z -/
def bb_X8_isLess_0 : List sw_I := [sw_ld 2 0, sw_cv 8 m_X9_weight 0, sw_ld 2 1, sw_cv 8 m_X9_weight 0, sw_ic 2 1 [false, false], sw_ld 2 0, sw_cv 8 m_X9_weight 0, sw_ld 2 1, sw_cv 8 m_X9_weight 0, sw_ic 1 2 [false, false], sw_ld 2 0, sw_gf 8 0, sw_ld 2 1, sw_gf 8 0, sw_ic 5 2 [false, false], sw_goto 1 [false, false]]
def bb_X8_isLess_1 : List sw_I := [sw_push (.int 1), sw_goto 3 [false, false]]
def bb_X8_isLess_2 : List sw_I := [sw_push (.int 0), sw_goto 3 [false, false]]
def bb_X8_isLess_3 : List sw_I := [sw_rv 1]
def b_X8_isLess : sw_B := fun n => match n with
  | 0 => bb_X8_isLess_0
  | 1 => bb_X8_isLess_1
  | 2 => bb_X8_isLess_2
  | 3 => bb_X8_isLess_3
  | _ => []
/-! SpillslotWorks$Lives.giveSlots()V -/
def bb_X8_giveSlots_0 : List sw_I := [sw_push (.int 0), sw_sti 1, sw_goto 1 [true, true, false]]
def bb_X8_giveSlots_1 : List sw_I := [sw_ld 0 1, sw_ld 2 0, sw_gf 7 3, sw_cv 24 m_J2_size 0, sw_ic 3 3 [false, false, false], sw_ld 2 0, sw_gf 7 3, sw_ld 0 1, sw_cv 24 m_J2_get 1, sw_ct [8], sw_sta 2, sw_ld 2 2, sw_gf 8 8, sw_iz 0 2 [true, true, false], sw_ld 2 2, sw_cv 8 m_X9_isRemade 0, sw_iz 1 2 [true, true, false], sw_ld 2 2, sw_ld 2 0, sw_ld 0 1, sw_cv 7 m_X8_freeSlot 1, sw_pf 8 9 0, sw_goto 2 [true, true, false]]
def bb_X8_giveSlots_2 : List sw_I := [sw_inc 1 1, sw_goto 1 [true, true, false]]
def bb_X8_giveSlots_3 : List sw_I := [sw_ret]
def b_X8_giveSlots : sw_B := fun n => match n with
  | 0 => bb_X8_giveSlots_0
  | 1 => bb_X8_giveSlots_1
  | 2 => bb_X8_giveSlots_2
  | 3 => bb_X8_giveSlots_3
  | _ => []
/-! SpillslotWorks$Lives.freeSlot(I)I -/
def bb_X8_freeSlot_0 : List sw_I := [sw_push (.int 0), sw_sti 2, sw_push (.int 0), sw_sti 3, sw_goto 1 [true, true, true, true, false]]
def bb_X8_freeSlot_1 : List sw_I := [sw_ld 0 3, sw_ld 0 1, sw_ic 3 8 [false, false, true, false, false], sw_ld 2 0, sw_gf 7 3, sw_ld 0 3, sw_cv 24 m_J2_get 1, sw_ct [8], sw_gf 8 9, sw_ld 0 2, sw_ic 1 2 [true, true, true, true, false], sw_ld 2 0, sw_gf 7 3, sw_ld 0 3, sw_cv 24 m_J2_get 1, sw_ct [8], sw_ld 2 0, sw_gf 7 3, sw_ld 0 1, sw_cv 24 m_J2_get 1, sw_ct [8], sw_cv 8 m_X9_meets 1, sw_iz 0 2 [true, true, true, true, false], sw_push (.int 1), sw_goto 3 [true, true, true, true, false]]
def bb_X8_freeSlot_2 : List sw_I := [sw_push (.int 0), sw_goto 3 [true, true, true, true, false]]
def bb_X8_freeSlot_3 : List sw_I := [sw_sti 4, sw_ld 0 2, sw_ld 0 4, sw_iz 0 4 [true, true, false, true, true], sw_push (.int 1), sw_goto 5 [true, true, false, true, true]]
def bb_X8_freeSlot_4 : List sw_I := [sw_push (.int 0), sw_goto 5 [true, true, false, true, true]]
def bb_X8_freeSlot_5 : List sw_I := [sw_ii (fun x y => x + y), sw_sti 2, sw_ld 0 4, sw_iz 0 6 [true, true, true, true, false], sw_push (.int 0), sw_goto 7 [true, true, true, false, false]]
def bb_X8_freeSlot_6 : List sw_I := [sw_ld 0 3, sw_push (.int 1), sw_ii (fun x y => x + y), sw_goto 7 [true, true, true, false, false]]
def bb_X8_freeSlot_7 : List sw_I := [sw_sti 3, sw_goto 1 [true, true, true, true, false]]
def bb_X8_freeSlot_8 : List sw_I := [sw_ld 0 2, sw_rv 0]
def b_X8_freeSlot : sw_B := fun n => match n with
  | 0 => bb_X8_freeSlot_0
  | 1 => bb_X8_freeSlot_1
  | 2 => bb_X8_freeSlot_2
  | 3 => bb_X8_freeSlot_3
  | 4 => bb_X8_freeSlot_4
  | 5 => bb_X8_freeSlot_5
  | 6 => bb_X8_freeSlot_6
  | 7 => bb_X8_freeSlot_7
  | 8 => bb_X8_freeSlot_8
  | _ => []
/-! SpillslotWorks$Lives.slots()I -/
def bb_X8_slots_0 : List sw_I := [sw_push (.int 0), sw_sti 1, sw_push (.int 0), sw_sti 2, sw_goto 1 [true, true, true]]
def bb_X8_slots_1 : List sw_I := [sw_ld 0 2, sw_ld 2 0, sw_gf 7 3, sw_cv 24 m_J2_size 0, sw_ic 3 2 [false, true, false], sw_ld 0 1, sw_ld 2 0, sw_gf 7 3, sw_ld 0 2, sw_cv 24 m_J2_get 1, sw_ct [8], sw_gf 8 9, sw_push (.int 1), sw_ii (fun x y => x + y), sw_mm sw_max, sw_sti 1, sw_inc 2 1, sw_goto 1 [true, true, true]]
def bb_X8_slots_2 : List sw_I := [sw_ld 0 1, sw_rv 0]
def b_X8_slots : sw_B := fun n => match n with
  | 0 => bb_X8_slots_0
  | 1 => bb_X8_slots_1
  | 2 => bb_X8_slots_2
  | _ => []
/-! SpillslotWorks$Lives.spilled(Z)I -/
def bb_X8_spilled_0 : List sw_I := [sw_push (.int 0), sw_sti 2, sw_push (.int 0), sw_sti 3, sw_goto 1 [true, true, true, true]]
def bb_X8_spilled_1 : List sw_I := [sw_ld 0 3, sw_ld 2 0, sw_gf 7 3, sw_cv 24 m_J2_size 0, sw_ic 3 5 [false, false, true, false], sw_ld 0 2, sw_ld 2 0, sw_gf 7 3, sw_ld 0 3, sw_cv 24 m_J2_get 1, sw_ct [8], sw_gf 8 8, sw_iz 0 3 [true, true, false, true], sw_ld 0 1, sw_iz 0 2 [true, true, false, true], sw_ld 2 0, sw_gf 7 3, sw_ld 0 3, sw_cv 24 m_J2_get 1, sw_ct [8], sw_cv 8 m_X9_isRemade 0, sw_iz 0 3 [true, true, false, true], sw_goto 2 [true, true, false, true]]
def bb_X8_spilled_2 : List sw_I := [sw_push (.int 1), sw_goto 4 [true, true, false, true]]
def bb_X8_spilled_3 : List sw_I := [sw_push (.int 0), sw_goto 4 [true, true, false, true]]
def bb_X8_spilled_4 : List sw_I := [sw_ii (fun x y => x + y), sw_sti 2, sw_inc 3 1, sw_goto 1 [true, true, true, true]]
def bb_X8_spilled_5 : List sw_I := [sw_ld 0 2, sw_rv 0]
def b_X8_spilled : sw_B := fun n => match n with
  | 0 => bb_X8_spilled_0
  | 1 => bb_X8_spilled_1
  | 2 => bb_X8_spilled_2
  | 3 => bb_X8_spilled_3
  | 4 => bb_X8_spilled_4
  | 5 => bb_X8_spilled_5
  | _ => []
/-! SpillslotWorks$Lives.frame()I -/
def bb_X8_frame_0 : List sw_I := [sw_push (.int 0), sw_sti 1, sw_push (.int 0), sw_sti 2, sw_goto 1 [true, true, true, false]]
def bb_X8_frame_1 : List sw_I := [sw_ld 0 2, sw_ld 2 0, sw_gf 7 3, sw_cv 24 m_J2_size 0, sw_ic 3 4 [true, true, false, false], sw_ld 2 0, sw_gf 7 3, sw_ld 0 2, sw_cv 24 m_J2_get 1, sw_ct [8], sw_gf 8 7, sw_sti 3, sw_ld 0 1, sw_ld 0 3, sw_push (.int (-1)), sw_ic 0 2 [true, false, true, false], sw_ld 2 0, sw_gf 7 2, sw_ld 0 3, sw_cv 2 m_X3_isKept 1, sw_iz 0 2 [true, false, true, false], sw_push (.int 1), sw_ld 0 3, sw_ii (fun x y => x <<< (y &&& 31)), sw_goto 3 [true, false, true, false]]
def bb_X8_frame_2 : List sw_I := [sw_push (.int 0), sw_goto 3 [true, false, true, false]]
def bb_X8_frame_3 : List sw_I := [sw_ii (fun x y => x ||| y), sw_sti 1, sw_inc 2 1, sw_goto 1 [true, true, true, false]]
def bb_X8_frame_4 : List sw_I := [sw_ld 2 0, sw_cv 7 m_X8_slots 0, sw_ld 0 1, sw_cs m_X1_count 1, sw_ii (fun x y => x + y), sw_push (.int 1), sw_ii (fun x y => x + y), sw_push (.int 2), sw_dvi (fun x y => x / y), sw_push (.int 2), sw_ii (fun x y => x * y), sw_rv 0]
def b_X8_frame : sw_B := fun n => match n with
  | 0 => bb_X8_frame_0
  | 1 => bb_X8_frame_1
  | 2 => bb_X8_frame_2
  | 3 => bb_X8_frame_3
  | 4 => bb_X8_frame_4
  | _ => []
/-! SpillslotWorks$Lives.most()I -/
def bb_X8_most_0 : List sw_I := [sw_push (.int 0), sw_sti 1, sw_push (.int 0), sw_sti 2, sw_goto 1 [true, true, true, false, false]]
def bb_X8_most_1 : List sw_I := [sw_ld 0 2, sw_ld 2 0, sw_gf 7 0, sw_cv 24 m_J2_size 0, sw_ic 4 6 [false, true, false, false, false], sw_push (.int 0), sw_sti 3, sw_push (.int 0), sw_sti 4, sw_goto 2 [true, true, true, true, true]]
def bb_X8_most_2 : List sw_I := [sw_ld 0 4, sw_ld 2 0, sw_gf 7 3, sw_cv 24 m_J2_size 0, sw_ic 3 5 [true, true, true, true, false], sw_ld 0 3, sw_ld 2 0, sw_gf 7 3, sw_ld 0 4, sw_cv 24 m_J2_get 1, sw_ct [8], sw_gf 8 1, sw_ld 0 2, sw_ic 4 3 [true, true, true, false, true], sw_ld 0 2, sw_ld 2 0, sw_gf 7 3, sw_ld 0 4, sw_cv 24 m_J2_get 1, sw_ct [8], sw_gf 8 2, sw_ic 4 3 [true, true, true, false, true], sw_push (.int 1), sw_goto 4 [true, true, true, false, true]]
def bb_X8_most_3 : List sw_I := [sw_push (.int 0), sw_goto 4 [true, true, true, false, true]]
def bb_X8_most_4 : List sw_I := [sw_ii (fun x y => x + y), sw_sti 3, sw_inc 4 1, sw_goto 2 [true, true, true, true, true]]
def bb_X8_most_5 : List sw_I := [sw_ld 0 1, sw_ld 0 3, sw_mm sw_max, sw_sti 1, sw_inc 2 1, sw_goto 1 [true, true, true, false, false]]
def bb_X8_most_6 : List sw_I := [sw_ld 0 1, sw_rv 0]
def b_X8_most : sw_B := fun n => match n with
  | 0 => bb_X8_most_0
  | 1 => bb_X8_most_1
  | 2 => bb_X8_most_2
  | 3 => bb_X8_most_3
  | 4 => bb_X8_most_4
  | 5 => bb_X8_most_5
  | 6 => bb_X8_most_6
  | _ => []
/-! SpillslotWorks$Life.<init>(I)V -/
def bb_X9_init_0 : List sw_I := [sw_ld 2 0, sw_oin, sw_ld 2 0, sw_push (.int (-1)), sw_pf 8 1 0, sw_ld 2 0, sw_push (.int (-1)), sw_pf 8 7 0, sw_ld 2 0, sw_push (.int (-1)), sw_pf 8 9 0, sw_ld 2 0, sw_ld 0 1, sw_pf 8 0 0, sw_ret]
def b_X9_init : sw_B := fun n => match n with
  | 0 => bb_X9_init_0
  | _ => []
/-! SpillslotWorks$Life.touch(ILSpillslotWorks$Op;I)V -/
def bb_X9_touch_0 : List sw_I := [sw_ld 2 0, sw_gf 8 1, sw_push (.int (-1)), sw_ic 1 1 [true, true, true, true], sw_ld 2 0, sw_ld 0 1, sw_pf 8 1 0, sw_ld 2 0, sw_ld 2 2, sw_pf 8 10 2, sw_goto 1 [true, true, true, true]]
def bb_X9_touch_1 : List sw_I := [sw_ld 2 0, sw_ld 0 1, sw_pf 8 2 0, sw_ld 2 0, sw_dup, sw_gf 8 3, sw_ld 2 2, sw_gf 6 1, sw_ld 2 0, sw_gf 8 0, sw_ic 1 2 [true, false, true, true], sw_push (.int 1), sw_goto 3 [true, false, true, true]]
def bb_X9_touch_2 : List sw_I := [sw_push (.int 0), sw_goto 3 [true, false, true, true]]
def bb_X9_touch_3 : List sw_I := [sw_ii (fun x y => x + y), sw_pf 8 3 0, sw_ld 2 0, sw_dup, sw_gf 8 4, sw_ld 2 2, sw_ld 2 0, sw_gf 8 0, sw_cv 6 m_X7_reads 1, sw_ii (fun x y => x + y), sw_pf 8 4 0, sw_ld 2 0, sw_dup, sw_gf 8 5, sw_ld 0 3, sw_ld 2 2, sw_gf 6 1, sw_ld 2 0, sw_gf 8 0, sw_ic 1 4 [true, false, true, false], sw_push (.int 1), sw_goto 5 [true, false, true, false]]
def bb_X9_touch_4 : List sw_I := [sw_push (.int 0), sw_goto 5 [true, false, true, false]]
def bb_X9_touch_5 : List sw_I := [sw_ld 2 2, sw_ld 2 0, sw_gf 8 0, sw_cv 6 m_X7_reads 1, sw_ii (fun x y => x + y), sw_ii (fun x y => x * y), sw_ii (fun x y => x + y), sw_pf 8 5 0, sw_ret]
def b_X9_touch : sw_B := fun n => match n with
  | 0 => bb_X9_touch_0
  | 1 => bb_X9_touch_1
  | 2 => bb_X9_touch_2
  | 3 => bb_X9_touch_3
  | 4 => bb_X9_touch_4
  | 5 => bb_X9_touch_5
  | _ => []
/-! SpillslotWorks$Life.crosses(I)Z -/
def bb_X9_crosses_0 : List sw_I := [sw_ld 2 0, sw_gf 8 1, sw_ld 0 1, sw_ic 3 1 [false, false], sw_ld 0 1, sw_ld 2 0, sw_gf 8 2, sw_ic 3 1 [false, false], sw_push (.int 1), sw_goto 2 [false, false]]
def bb_X9_crosses_1 : List sw_I := [sw_push (.int 0), sw_goto 2 [false, false]]
def bb_X9_crosses_2 : List sw_I := [sw_rv 1]
def b_X9_crosses : sw_B := fun n => match n with
  | 0 => bb_X9_crosses_0
  | 1 => bb_X9_crosses_1
  | 2 => bb_X9_crosses_2
  | _ => []
/-! SpillslotWorks$Life.weight()I -/
def bb_X9_weight_0 : List sw_I := [sw_push (.int 100), sw_ld 2 0, sw_gf 8 5, sw_ii (fun x y => x * y), sw_ld 2 0, sw_gf 8 2, sw_ld 2 0, sw_gf 8 1, sw_ii (fun x y => x - y), sw_push (.int 1), sw_ii (fun x y => x + y), sw_dvi (fun x y => x / y), sw_rv 0]
def b_X9_weight : sw_B := fun n => match n with
  | 0 => bb_X9_weight_0
  | _ => []
/-! SpillslotWorks$Life.isRemade()Z -/
def bb_X9_isRemade_0 : List sw_I := [sw_ld 2 0, sw_gf 8 8, sw_iz 0 1 [false], sw_ld 2 0, sw_gf 8 3, sw_push (.int 1), sw_ic 1 1 [false], sw_ld 2 0, sw_gf 8 10, sw_push (.int 0), sw_cv 6 m_X7_is 1, sw_iz 0 1 [false], sw_push (.int 1), sw_goto 2 [false]]
def bb_X9_isRemade_1 : List sw_I := [sw_push (.int 0), sw_goto 2 [false]]
def bb_X9_isRemade_2 : List sw_I := [sw_rv 1]
def b_X9_isRemade : sw_B := fun n => match n with
  | 0 => bb_X9_isRemade_0
  | 1 => bb_X9_isRemade_1
  | 2 => bb_X9_isRemade_2
  | _ => []
/-! SpillslotWorks$Life.meets(LSpillslotWorks$Life;)Z -/
def bb_X9_meets_0 : List sw_I := [sw_ld 2 0, sw_gf 8 1, sw_ld 2 1, sw_gf 8 2, sw_ic 4 1 [false, false], sw_ld 2 1, sw_gf 8 1, sw_ld 2 0, sw_gf 8 2, sw_ic 4 1 [false, false], sw_push (.int 1), sw_goto 2 [false, false]]
def bb_X9_meets_1 : List sw_I := [sw_push (.int 0), sw_goto 2 [false, false]]
def bb_X9_meets_2 : List sw_I := [sw_rv 1]
def b_X9_meets : sw_B := fun n => match n with
  | 0 => bb_X9_meets_0
  | 1 => bb_X9_meets_1
  | 2 => bb_X9_meets_2
  | _ => []
noncomputable def sw_Tl : List (Nat × sw_B) := [(1, b_J0_init), (1, b_J1_init), (1, b_J19_intValue), (1, b_J19_valueOf), (1, b_J19_bitCount), (1, b_J2_init), (2, b_J2_add), (4, b_J2_add_2), (1, b_J2_grow), (4, b_J2_grow_2), (1, b_J2_size), (2, b_J2_get), (2, b_J2_elementData), (5, b_J2_add_3), (2, b_J2_rangeCheckForAdd), (1, b_J2_isEmpty), (4, b_J2_remove), (4, b_J2_fastRemove), (1, b_J2_iterator), (4, b_J2_clear), (6, b_J2_addAll), (1, b_J2_toArray), (2, b_J2_contains), (2, b_J2_indexOf), (6, b_J2_indexOfRange), (2, b_J23_init), (1, b_J23_hasNext), (3, b_J23_next), (1, b_J23_checkForComodification), (2, b_J24_equals), (4, b_J3_newLength), (2, b_J5_copyOf), (4, b_J5_copyOf_2), (2, b_J6_checkIndex), (3, b_J7_checkIndex), (1, b_J8_ordinal), (1, b_X1_init), (1, b_X1_firstLatencies), (2, b_X1_has), (2, b_X1_callOf), (1, b_X1_meanStall), (1, b_X1_enough), (3, b_X1_enoughNow), (2, b_X1_buildWith), (3, b_X1_count), (1, b_X1_unordered), (1, b_X1_unorderedNow), (4, b_X1_digest), (2, b_X1_manyNow), (3, b_X1_freeNodes), (9, b_X1_mix), (7, b_X1_mixChosen), (4, b_X1_chosenNow), (2, b_X1_readAt), (7, b_X1_mixValues), (2, b_X1_lifeNow), (7, b_X1_mixCode), (8, b_X1_mapNow), (4, b_X1_codeNow), (7, b_X1_machine), (3, b_X1_mustBeMachine), (3, b_X1_mustBeIn), (1, b_X1_must), (1, b_X1_renew), (4, b_X1_latency), (2, b_X1_checkPlace), (5, b_X1_node), (1, b_X1_kindOf), (2, b_X1_isFreeNode), (1, b_X1_checkState), (5, b_X1_statement), (1, b_X1_checkBlock), (4, b_X1_take), (4, b_X1_times), (3, b_X1_out), (2, b_X1_meant), (3, b_X1_chosen), (3, b_X1_ofValue), (4, b_X1_mapAt), (4, b_X1_pointOf), (2, b_X1_cost), (3, b_X1_code), (2, b_X1_begins), (2, b_X1_answer), (2, b_X1_many), (5, b_X1_with), (3, b_X1_cyclesWith), (3, b_X10_init), (4, b_X10_all), (5, b_X10_writeCall), (3, b_X10_move), (4, b_X10_put), (6, b_X10_put_2), (4, b_X10_bring), (5, b_X10_writePlain), (5, b_X10_readsOf), (6, b_X10_writeTwo), (4, b_X10_reckonIn), (4, b_X10_reckon), (3, b_X10_storeFrom), (7, b_X11_init), (2, b_X11_operand), (3, b_X12_init), (5, b_X12_run), (5, b_X12_step), (1, b_X12_firstRead), (1, b_X12_lastRead), (2, b_X12_act), (3, b_X12_at), (3, b_X12_call), (2, b_X12_reckoned), (1, b_X13_init), (1, b_X13_thrown), (7, b_X13_machine), (3, b_X13_isNoMachine), (3, b_X13_isIn), (3, b_X13_start), (3, b_X13_refuse), (4, b_X13_latency), (1, b_X13_isNoKind), (1, b_X13_isNoLatency), (5, b_X13_node), (4, b_X13_isNode), (2, b_X13_isFree), (4, b_X13_statement), (1, b_X13_isNoBlock), (1, b_X13_isNoVariable), (2, b_X13_isNoNode), (4, b_X13_statements), (4, b_X13_take), (4, b_X13_times), (3, b_X13_out), (2, b_X13_meant), (4, b_X13_chosen), (1, b_X13_plan), (3, b_X13_plan_2), (2, b_X13_has), (4, b_X13_told), (4, b_X13_ofValue), (3, b_X13_told_2), (4, b_X13_mapAt), (7, b_X13_mapOf), (2, b_X13_cost), (4, b_X13_code), (3, b_X13_begins), (2, b_X13_answer), (2, b_X13_many), (6, b_X13_count), (2, b_X13_meanStall), (5, b_X13_with), (5, b_X13_withNow), (5, b_X13_cyclesWith), (1, b_X13_enough), (3, b_X13_enoughNow), (1, b_X13_unordered), (1, b_X13_unorderedNow), (9, b_X13_digest), (4, b_X13_add), (2, b_X14_init), (2, b_X14_of), (6, b_X14_meant), (6, b_X14_meant_2), (2, b_X14_latency), (6, b_X15_init), (1, b_X15_scratch), (2, b_X15_isKept), (1, b_X16_isOfTwo), (2, b_X16_is), (4, b_X16_init), (4, b_X17_init), (1, b_X17_isOfTwo), (3, b_X18_init), (7, b_X19_init), (7, b_X19_live), (2, b_X19_timesOf), (4, b_X19_touch), (5, b_X19_note), (4, b_X19_settle), (4, b_X19_stretch), (6, b_X19_give), (3, b_X19_canHave), (5, b_X19_yieldOne), (3, b_X19_spill), (5, b_X19_isTaken), (3, b_X19_answer), (3, b_X19_told), (5, b_X19_spilled), (4, b_X19_frame), (6, b_X19_in), (6, b_X19_most), (2, b_X2_init), (2, b_X2_at), (3, b_X2_statements), (6, b_X2_meant), (6, b_X2_value), (7, b_X20_init), (3, b_X20_state), (6, b_X20_add), (7, b_X20_choose), (2, b_X20_cost), (3, b_X20_costNow), (2, b_X20_plain), (2, b_X20_smallCost), (2, b_X20_small), (2, b_X20_isSmall), (3, b_X20_other), (3, b_X20_fusedCost), (2, b_X20_fused), (7, b_X20_fuse), (5, b_X20_order), (5, b_X20_isReady), (8, b_X20_enter), (5, b_X20_look), (6, b_X21_init), (2, b_X21_needs), (6, b_X21_reads), (2, b_X22_init), (1, b_X22_isIn), (2, b_X22_goesOver), (1, b_X22_isSpilled), (2, b_X22_meets), (3, b_X23_init), (6, b_X23_lay), (5, b_X23_layCall), (6, b_X23_put), (3, b_X23_bring), (3, b_X23_store), (6, b_X23_layTwo), (5, b_X23_layOp), (2, b_X24_init), (3, b_X24_go), (3, b_X24_pass), (4, b_X24_step), (2, b_X24_readyOf), (3, b_X24_work), (2, b_X24_lose), (7, b_X3_init), (2, b_X3_latency), (2, b_X3_isSmall), (2, b_X3_isKept), (1, b_X3_scratch), (4, b_X3_with), (4, b_X3_with_2), (7, b_X4_init), (2, b_X4_many), (5, b_X4_codes), (3, b_X4_answer), (4, b_X5_init), (3, b_X5_costOf), (2, b_X5_at), (2, b_X5_plainCost), (1, b_X5_opOf), (2, b_X5_smallCost), (2, b_X5_small), (2, b_X5_isSmall), (2, b_X5_other), (3, b_X5_fusedCost), (2, b_X5_fused), (4, b_X5_all), (6, b_X5_emit), (6, b_X5_emit_2), (2, b_X5_value), (9, b_X5_emitFused), (5, b_X5_entry), (4, b_X6_init), (4, b_X6_needsOf), (4, b_X6_heightOf), (4, b_X6_all), (3, b_X6_place), (5, b_X6_next), (6, b_X7_init), (7, b_X7_reads), (3, b_X7_needs), (2, b_X7_is), (7, b_X8_init), (5, b_X8_lifeOf), (2, b_X8_timesOf), (4, b_X8_stretch), (5, b_X8_edge), (3, b_X8_put), (6, b_X8_give), (4, b_X8_hint), (2, b_X8_of), (3, b_X8_placeOf), (3, b_X8_canTake), (3, b_X8_canHave), (4, b_X8_isFree), (3, b_X8_isHeld), (2, b_X8_isLess), (3, b_X8_giveSlots), (5, b_X8_freeSlot), (3, b_X8_slots), (4, b_X8_spilled), (4, b_X8_frame), (5, b_X8_most), (2, b_X9_init), (4, b_X9_touch), (2, b_X9_crosses), (1, b_X9_weight), (1, b_X9_isRemade), (2, b_X9_meets)]
noncomputable def sw_T (y : Nat) : Nat × sw_B := sw_Tl.getD y (0, fun _ => [])
/-- the small machine over this code -/
noncomputable def sw_Z : Nat → sw_F := sw_M sw_T
section SWC
variable {cf : sw_F} {l : sw_L} {st : List Value} {P : sw_P}
theorem M_J0_init (d : Nat) (as : List Value) (P : sw_P) (h : sw_wd 1 as = true) : sw_Z (d + 1) m_J0_init as P = sw_at (sw_Z d) b_J0_init 0 (sw_en 1 as) [] P := if_pos h
theorem at_J0_init_0 : sw_at cf b_J0_init 0 l st P = sw_ex cf b_J0_init [sw_ld 2 0, sw_oin, sw_ret] l st P := rfl
theorem M_J1_init (d : Nat) (as : List Value) (P : sw_P) (h : sw_wd 1 as = true) : sw_Z (d + 1) m_J1_init as P = sw_at (sw_Z d) b_J1_init 0 (sw_en 1 as) [] P := if_pos h
theorem at_J1_init_0 : sw_at cf b_J1_init 0 l st P = sw_ex cf b_J1_init [sw_ld 2 0, sw_ci m_J0_init 0, sw_ld 2 0, sw_push (.int 0), sw_pf 24 0 0, sw_ret] l st P := rfl
theorem M_J19_intValue (d : Nat) (as : List Value) (P : sw_P) (h : sw_wd 1 as = true) : sw_Z (d + 1) m_J19_intValue as P = sw_at (sw_Z d) b_J19_intValue 0 (sw_en 1 as) [] P := if_pos h
theorem at_J19_intValue_0 : sw_at cf b_J19_intValue 0 l st P = sw_ex cf b_J19_intValue [sw_ld 2 0, sw_gf 41 0, sw_rv 0] l st P := rfl
theorem M_J19_valueOf (d : Nat) (as : List Value) (P : sw_P) (h : sw_wd 1 as = true) : sw_Z (d + 1) m_J19_valueOf as P = sw_at (sw_Z d) b_J19_valueOf 0 (sw_en 1 as) [] P := if_pos h
theorem at_J19_valueOf_0 : sw_at cf b_J19_valueOf 0 l st P = sw_ex cf b_J19_valueOf [sw_ld 0 0, sw_push (.int (-128)), sw_ic 2 1 [true], sw_ld 0 0, sw_push (.int 127), sw_ic 4 1 [true], sw_gs 11, sw_ld 0 0, sw_push (.int 128), sw_ii (fun x y => x + y), sw_ald 71, sw_rv 2] l st P := rfl
theorem at_J19_valueOf_1 : sw_at cf b_J19_valueOf 1 l st P = sw_ex cf b_J19_valueOf [sw_stop] l st P := rfl
theorem M_J19_bitCount (d : Nat) (as : List Value) (P : sw_P) (h : sw_wd 1 as = true) : sw_Z (d + 1) m_J19_bitCount as P = sw_at (sw_Z d) b_J19_bitCount 0 (sw_en 1 as) [] P := if_pos h
theorem at_J19_bitCount_0 : sw_at cf b_J19_bitCount 0 l st P = sw_ex cf b_J19_bitCount [sw_ld 0 0, sw_ld 0 0, sw_push (.int 1), sw_ii (fun x y => (x.toUInt32 >>> (y.toUInt32 &&& Int32.toUInt32 31)).toInt32), sw_push (.int 1431655765), sw_ii (fun x y => x &&& y), sw_ii (fun x y => x - y), sw_sti 0, sw_ld 0 0, sw_push (.int 858993459), sw_ii (fun x y => x &&& y), sw_ld 0 0, sw_push (.int 2), sw_ii (fun x y => (x.toUInt32 >>> (y.toUInt32 &&& Int32.toUInt32 31)).toInt32), sw_push (.int 858993459), sw_ii (fun x y => x &&& y), sw_ii (fun x y => x + y), sw_sti 0, sw_ld 0 0, sw_ld 0 0, sw_push (.int 4), sw_ii (fun x y => (x.toUInt32 >>> (y.toUInt32 &&& Int32.toUInt32 31)).toInt32), sw_ii (fun x y => x + y), sw_push (.int 252645135), sw_ii (fun x y => x &&& y), sw_sti 0, sw_ld 0 0, sw_ld 0 0, sw_push (.int 8), sw_ii (fun x y => (x.toUInt32 >>> (y.toUInt32 &&& Int32.toUInt32 31)).toInt32), sw_ii (fun x y => x + y), sw_sti 0, sw_ld 0 0, sw_ld 0 0, sw_push (.int 16), sw_ii (fun x y => (x.toUInt32 >>> (y.toUInt32 &&& Int32.toUInt32 31)).toInt32), sw_ii (fun x y => x + y), sw_sti 0, sw_ld 0 0, sw_push (.int 63), sw_ii (fun x y => x &&& y), sw_rv 0] l st P := rfl
theorem M_J2_init (d : Nat) (as : List Value) (P : sw_P) (h : sw_wd 1 as = true) : sw_Z (d + 1) m_J2_init as P = sw_at (sw_Z d) b_J2_init 0 (sw_en 1 as) [] P := if_pos h
theorem at_J2_init_0 : sw_at cf b_J2_init 0 l st P = sw_ex cf b_J2_init [sw_ld 2 0, sw_ci m_J1_init 0, sw_ld 2 0, sw_gs 10, sw_pf 24 1 2, sw_ret] l st P := rfl
theorem M_J2_add (d : Nat) (as : List Value) (P : sw_P) (h : sw_wd 2 as = true) : sw_Z (d + 1) m_J2_add as P = sw_at (sw_Z d) b_J2_add 0 (sw_en 2 as) [] P := if_pos h
theorem at_J2_add_0 : sw_at cf b_J2_add 0 l st P = sw_ex cf b_J2_add [sw_ld 2 0, sw_dup, sw_gf 24 0, sw_push (.int 1), sw_ii (fun x y => x + y), sw_pf 24 0 0, sw_ld 2 0, sw_ld 2 1, sw_ld 2 0, sw_gf 24 1, sw_ld 2 0, sw_gf 24 2, sw_cv 24 m_J2_add_2 3, sw_push (.int 1), sw_rv 1] l st P := rfl
theorem M_J2_add_2 (d : Nat) (as : List Value) (P : sw_P) (h : sw_wd 4 as = true) : sw_Z (d + 1) m_J2_add_2 as P = sw_at (sw_Z d) b_J2_add_2 0 (sw_en 4 as) [] P := if_pos h
theorem at_J2_add_2_0 : sw_at cf b_J2_add_2 0 l st P = sw_ex cf b_J2_add_2 [sw_ld 0 3, sw_ld 2 2, sw_al, sw_ic 1 1 [true, true, true, true], sw_ld 2 0, sw_cv 24 m_J2_grow 0, sw_sta 2, sw_goto 1 [true, true, true, true]] l st P := rfl
theorem at_J2_add_2_1 : sw_at cf b_J2_add_2 1 l st P = sw_ex cf b_J2_add_2 [sw_ld 2 2, sw_ld 0 3, sw_ld 2 1, sw_asr 67 sw_k67, sw_ld 2 0, sw_ld 0 3, sw_push (.int 1), sw_ii (fun x y => x + y), sw_pf 24 2 0, sw_ret] l st P := rfl
theorem M_J2_grow (d : Nat) (as : List Value) (P : sw_P) (h : sw_wd 1 as = true) : sw_Z (d + 1) m_J2_grow as P = sw_at (sw_Z d) b_J2_grow 0 (sw_en 1 as) [] P := if_pos h
theorem at_J2_grow_0 : sw_at cf b_J2_grow 0 l st P = sw_ex cf b_J2_grow [sw_ld 2 0, sw_ld 2 0, sw_gf 24 2, sw_push (.int 1), sw_ii (fun x y => x + y), sw_cv 24 m_J2_grow_2 1, sw_rv 2] l st P := rfl
theorem M_J2_grow_2 (d : Nat) (as : List Value) (P : sw_P) (h : sw_wd 4 as = true) : sw_Z (d + 1) m_J2_grow_2 as P = sw_at (sw_Z d) b_J2_grow_2 0 (sw_en 4 as) [] P := if_pos h
theorem at_J2_grow_2_0 : sw_at cf b_J2_grow_2 0 l st P = sw_ex cf b_J2_grow_2 [sw_ld 2 0, sw_gf 24 1, sw_al, sw_sti 2, sw_ld 0 2, sw_iz 4 1 [true, true, true, false], sw_ld 2 0, sw_gf 24 1, sw_gs 10, sw_iac true 2 [true, true, false, false], sw_goto 1 [true, true, true, false]] l st P := rfl
theorem at_J2_grow_2_1 : sw_at cf b_J2_grow_2 1 l st P = sw_ex cf b_J2_grow_2 [sw_ld 0 2, sw_ld 0 1, sw_ld 0 2, sw_ii (fun x y => x - y), sw_ld 0 2, sw_push (.int 1), sw_ii (fun x y => x >>> (y &&& 31)), sw_cs m_J3_newLength 3, sw_sti 3, sw_ld 2 0, sw_ld 2 0, sw_gf 24 1, sw_ld 0 3, sw_cs m_J5_copyOf 2, sw_dx1, sw_pf 24 1 2, sw_rv 2] l st P := rfl
theorem at_J2_grow_2_2 : sw_at cf b_J2_grow_2 2 l st P = sw_ex cf b_J2_grow_2 [sw_ld 2 0, sw_push (.int 10), sw_ld 0 1, sw_mm sw_max, sw_na 67, sw_dx1, sw_pf 24 1 2, sw_rv 2] l st P := rfl
theorem M_J2_size (d : Nat) (as : List Value) (P : sw_P) (h : sw_wd 1 as = true) : sw_Z (d + 1) m_J2_size as P = sw_at (sw_Z d) b_J2_size 0 (sw_en 1 as) [] P := if_pos h
theorem at_J2_size_0 : sw_at cf b_J2_size 0 l st P = sw_ex cf b_J2_size [sw_ld 2 0, sw_gf 24 2, sw_rv 0] l st P := rfl
theorem M_J2_get (d : Nat) (as : List Value) (P : sw_P) (h : sw_wd 2 as = true) : sw_Z (d + 1) m_J2_get as P = sw_at (sw_Z d) b_J2_get 0 (sw_en 2 as) [] P := if_pos h
theorem at_J2_get_0 : sw_at cf b_J2_get 0 l st P = sw_ex cf b_J2_get [sw_ld 0 1, sw_ld 2 0, sw_gf 24 2, sw_cs m_J6_checkIndex 2, sw_pop, sw_ld 2 0, sw_ld 0 1, sw_cv 24 m_J2_elementData 1, sw_rv 2] l st P := rfl
theorem M_J2_elementData (d : Nat) (as : List Value) (P : sw_P) (h : sw_wd 2 as = true) : sw_Z (d + 1) m_J2_elementData as P = sw_at (sw_Z d) b_J2_elementData 0 (sw_en 2 as) [] P := if_pos h
theorem at_J2_elementData_0 : sw_at cf b_J2_elementData 0 l st P = sw_ex cf b_J2_elementData [sw_ld 2 0, sw_gf 24 1, sw_ld 0 1, sw_ald 67, sw_rv 2] l st P := rfl
theorem M_J2_add_3 (d : Nat) (as : List Value) (P : sw_P) (h : sw_wd 5 as = true) : sw_Z (d + 1) m_J2_add_3 as P = sw_at (sw_Z d) b_J2_add_3 0 (sw_en 5 as) [] P := if_pos h
theorem at_J2_add_3_0 : sw_at cf b_J2_add_3 0 l st P = sw_ex cf b_J2_add_3 [sw_ld 2 0, sw_ld 0 1, sw_cv 24 m_J2_rangeCheckForAdd 1, sw_ld 2 0, sw_dup, sw_gf 24 0, sw_push (.int 1), sw_ii (fun x y => x + y), sw_pf 24 0 0, sw_ld 2 0, sw_gf 24 2, sw_dup, sw_sti 3, sw_ld 2 0, sw_gf 24 1, sw_dup, sw_sta 4, sw_al, sw_ic 1 1 [true, true, true, true, true], sw_ld 2 0, sw_cv 24 m_J2_grow 0, sw_sta 4, sw_goto 1 [true, true, true, true, true]] l st P := rfl
theorem at_J2_add_3_1 : sw_at cf b_J2_add_3 1 l st P = sw_ex cf b_J2_add_3 [sw_ld 2 4, sw_ld 0 1, sw_ld 2 4, sw_ld 0 1, sw_push (.int 1), sw_ii (fun x y => x + y), sw_ld 0 3, sw_ld 0 1, sw_ii (fun x y => x - y), sw_cp 67, sw_ld 2 4, sw_ld 0 1, sw_ld 2 2, sw_asr 67 sw_k67, sw_ld 2 0, sw_ld 0 3, sw_push (.int 1), sw_ii (fun x y => x + y), sw_pf 24 2 0, sw_ret] l st P := rfl
theorem M_J2_rangeCheckForAdd (d : Nat) (as : List Value) (P : sw_P) (h : sw_wd 2 as = true) : sw_Z (d + 1) m_J2_rangeCheckForAdd as P = sw_at (sw_Z d) b_J2_rangeCheckForAdd 0 (sw_en 2 as) [] P := if_pos h
theorem at_J2_rangeCheckForAdd_0 : sw_at cf b_J2_rangeCheckForAdd 0 l st P = sw_ex cf b_J2_rangeCheckForAdd [sw_ld 0 1, sw_ld 2 0, sw_gf 24 2, sw_ic 4 1 [true, true], sw_ld 0 1, sw_iz 3 2 [false, false], sw_goto 1 [true, true]] l st P := rfl
theorem at_J2_rangeCheckForAdd_1 : sw_at cf b_J2_rangeCheckForAdd 1 l st P = sw_ex cf b_J2_rangeCheckForAdd [sw_stop] l st P := rfl
theorem at_J2_rangeCheckForAdd_2 : sw_at cf b_J2_rangeCheckForAdd 2 l st P = sw_ex cf b_J2_rangeCheckForAdd [sw_ret] l st P := rfl
theorem M_J2_isEmpty (d : Nat) (as : List Value) (P : sw_P) (h : sw_wd 1 as = true) : sw_Z (d + 1) m_J2_isEmpty as P = sw_at (sw_Z d) b_J2_isEmpty 0 (sw_en 1 as) [] P := if_pos h
theorem at_J2_isEmpty_0 : sw_at cf b_J2_isEmpty 0 l st P = sw_ex cf b_J2_isEmpty [sw_ld 2 0, sw_gf 24 2, sw_iz 1 1 [false], sw_push (.int 1), sw_goto 2 [false]] l st P := rfl
theorem at_J2_isEmpty_1 : sw_at cf b_J2_isEmpty 1 l st P = sw_ex cf b_J2_isEmpty [sw_push (.int 0), sw_goto 2 [false]] l st P := rfl
theorem at_J2_isEmpty_2 : sw_at cf b_J2_isEmpty 2 l st P = sw_ex cf b_J2_isEmpty [sw_rv 1] l st P := rfl
theorem M_J2_remove (d : Nat) (as : List Value) (P : sw_P) (h : sw_wd 4 as = true) : sw_Z (d + 1) m_J2_remove as P = sw_at (sw_Z d) b_J2_remove 0 (sw_en 4 as) [] P := if_pos h
theorem at_J2_remove_0 : sw_at cf b_J2_remove 0 l st P = sw_ex cf b_J2_remove [sw_ld 0 1, sw_ld 2 0, sw_gf 24 2, sw_cs m_J6_checkIndex 2, sw_pop, sw_ld 2 0, sw_gf 24 1, sw_sta 2, sw_ld 2 2, sw_ld 0 1, sw_ald 67, sw_sta 3, sw_ld 2 0, sw_ld 2 2, sw_ld 0 1, sw_cv 24 m_J2_fastRemove 2, sw_ld 2 3, sw_rv 2] l st P := rfl
theorem M_J2_fastRemove (d : Nat) (as : List Value) (P : sw_P) (h : sw_wd 4 as = true) : sw_Z (d + 1) m_J2_fastRemove as P = sw_at (sw_Z d) b_J2_fastRemove 0 (sw_en 4 as) [] P := if_pos h
theorem at_J2_fastRemove_0 : sw_at cf b_J2_fastRemove 0 l st P = sw_ex cf b_J2_fastRemove [sw_ld 2 0, sw_dup, sw_gf 24 0, sw_push (.int 1), sw_ii (fun x y => x + y), sw_pf 24 0 0, sw_ld 2 0, sw_gf 24 2, sw_push (.int 1), sw_ii (fun x y => x - y), sw_dup, sw_sti 3, sw_ld 0 2, sw_ic 5 1 [true, true, false, true], sw_ld 2 1, sw_ld 0 2, sw_push (.int 1), sw_ii (fun x y => x + y), sw_ld 2 1, sw_ld 0 2, sw_ld 0 3, sw_ld 0 2, sw_ii (fun x y => x - y), sw_cp 67, sw_goto 1 [true, true, false, true]] l st P := rfl
theorem at_J2_fastRemove_1 : sw_at cf b_J2_fastRemove 1 l st P = sw_ex cf b_J2_fastRemove [sw_ld 2 1, sw_ld 2 0, sw_ld 0 3, sw_dx1, sw_pf 24 2 0, sw_push .null, sw_asr 67 sw_k67, sw_ret] l st P := rfl
theorem M_J2_iterator (d : Nat) (as : List Value) (P : sw_P) (h : sw_wd 1 as = true) : sw_Z (d + 1) m_J2_iterator as P = sw_at (sw_Z d) b_J2_iterator 0 (sw_en 1 as) [] P := if_pos h
theorem at_J2_iterator_0 : sw_at cf b_J2_iterator 0 l st P = sw_ex cf b_J2_iterator [sw_nw 25 [.int 0, .int 0, .int 0, .null], sw_dup, sw_ld 2 0, sw_ci m_J23_init 1, sw_rv 2] l st P := rfl
theorem M_J2_clear (d : Nat) (as : List Value) (P : sw_P) (h : sw_wd 4 as = true) : sw_Z (d + 1) m_J2_clear as P = sw_at (sw_Z d) b_J2_clear 0 (sw_en 4 as) [] P := if_pos h
theorem at_J2_clear_0 : sw_at cf b_J2_clear 0 l st P = sw_ex cf b_J2_clear [sw_ld 2 0, sw_dup, sw_gf 24 0, sw_push (.int 1), sw_ii (fun x y => x + y), sw_pf 24 0 0, sw_ld 2 0, sw_gf 24 1, sw_sta 1, sw_ld 2 0, sw_gf 24 2, sw_sti 2, sw_ld 2 0, sw_push (.int 0), sw_dx1, sw_pf 24 2 0, sw_sti 3, sw_goto 1 [false, true, true, true]] l st P := rfl
theorem at_J2_clear_1 : sw_at cf b_J2_clear 1 l st P = sw_ex cf b_J2_clear [sw_ld 0 3, sw_ld 0 2, sw_ic 3 2 [false, false, false, false], sw_ld 2 1, sw_ld 0 3, sw_push .null, sw_asr 67 sw_k67, sw_inc 3 1, sw_goto 1 [false, true, true, true]] l st P := rfl
theorem at_J2_clear_2 : sw_at cf b_J2_clear 2 l st P = sw_ex cf b_J2_clear [sw_ret] l st P := rfl
theorem M_J2_addAll (d : Nat) (as : List Value) (P : sw_P) (h : sw_wd 6 as = true) : sw_Z (d + 1) m_J2_addAll as P = sw_at (sw_Z d) b_J2_addAll 0 (sw_en 6 as) [] P := if_pos h
theorem at_J2_addAll_0 : sw_at cf b_J2_addAll 0 l st P = sw_ex cf b_J2_addAll [sw_ld 2 1, sw_cv 24 m_J2_toArray 0, sw_sta 2, sw_ld 2 0, sw_dup, sw_gf 24 0, sw_push (.int 1), sw_ii (fun x y => x + y), sw_pf 24 0 0, sw_ld 2 2, sw_al, sw_sti 3, sw_ld 0 3, sw_iz 1 1 [true, false, true, true, false, false], sw_push (.int 0), sw_rv 1] l st P := rfl
theorem at_J2_addAll_1 : sw_at cf b_J2_addAll 1 l st P = sw_ex cf b_J2_addAll [sw_ld 0 3, sw_ld 2 0, sw_gf 24 1, sw_dup, sw_sta 4, sw_al, sw_ld 2 0, sw_gf 24 2, sw_dup, sw_sti 5, sw_ii (fun x y => x - y), sw_ic 5 2 [true, false, true, true, true, true], sw_ld 2 0, sw_ld 0 5, sw_ld 0 3, sw_ii (fun x y => x + y), sw_cv 24 m_J2_grow_2 1, sw_sta 4, sw_goto 2 [true, false, true, true, true, true]] l st P := rfl
theorem at_J2_addAll_2 : sw_at cf b_J2_addAll 2 l st P = sw_ex cf b_J2_addAll [sw_ld 2 2, sw_push (.int 0), sw_ld 2 4, sw_ld 0 5, sw_ld 0 3, sw_cp 67, sw_ld 2 0, sw_ld 0 5, sw_ld 0 3, sw_ii (fun x y => x + y), sw_pf 24 2 0, sw_push (.int 1), sw_rv 1] l st P := rfl
theorem M_J2_toArray (d : Nat) (as : List Value) (P : sw_P) (h : sw_wd 1 as = true) : sw_Z (d + 1) m_J2_toArray as P = sw_at (sw_Z d) b_J2_toArray 0 (sw_en 1 as) [] P := if_pos h
theorem at_J2_toArray_0 : sw_at cf b_J2_toArray 0 l st P = sw_ex cf b_J2_toArray [sw_ld 2 0, sw_gf 24 1, sw_ld 2 0, sw_gf 24 2, sw_cs m_J5_copyOf 2, sw_rv 2] l st P := rfl
theorem M_J2_contains (d : Nat) (as : List Value) (P : sw_P) (h : sw_wd 2 as = true) : sw_Z (d + 1) m_J2_contains as P = sw_at (sw_Z d) b_J2_contains 0 (sw_en 2 as) [] P := if_pos h
theorem at_J2_contains_0 : sw_at cf b_J2_contains 0 l st P = sw_ex cf b_J2_contains [sw_ld 2 0, sw_ld 2 1, sw_cv 24 m_J2_indexOf 1, sw_iz 2 1 [false, false], sw_push (.int 1), sw_goto 2 [false, false]] l st P := rfl
theorem at_J2_contains_1 : sw_at cf b_J2_contains 1 l st P = sw_ex cf b_J2_contains [sw_push (.int 0), sw_goto 2 [false, false]] l st P := rfl
theorem at_J2_contains_2 : sw_at cf b_J2_contains 2 l st P = sw_ex cf b_J2_contains [sw_rv 1] l st P := rfl
theorem M_J2_indexOf (d : Nat) (as : List Value) (P : sw_P) (h : sw_wd 2 as = true) : sw_Z (d + 1) m_J2_indexOf as P = sw_at (sw_Z d) b_J2_indexOf 0 (sw_en 2 as) [] P := if_pos h
theorem at_J2_indexOf_0 : sw_at cf b_J2_indexOf 0 l st P = sw_ex cf b_J2_indexOf [sw_ld 2 0, sw_ld 2 1, sw_push (.int 0), sw_ld 2 0, sw_gf 24 2, sw_cv 24 m_J2_indexOfRange 3, sw_rv 0] l st P := rfl
theorem M_J2_indexOfRange (d : Nat) (as : List Value) (P : sw_P) (h : sw_wd 6 as = true) : sw_Z (d + 1) m_J2_indexOfRange as P = sw_at (sw_Z d) b_J2_indexOfRange 0 (sw_en 6 as) [] P := if_pos h
theorem at_J2_indexOfRange_0 : sw_at cf b_J2_indexOfRange 0 l st P = sw_ex cf b_J2_indexOfRange [sw_ld 2 0, sw_gf 24 1, sw_sta 4, sw_ld 2 1, sw_inl false 4 [false, true, true, true, true, false], sw_ld 0 2, sw_sti 5, sw_goto 1 [false, false, false, true, true, true]] l st P := rfl
theorem at_J2_indexOfRange_1 : sw_at cf b_J2_indexOfRange 1 l st P = sw_ex cf b_J2_indexOfRange [sw_ld 0 5, sw_ld 0 3, sw_ic 3 3 [false, false, false, false, false, false], sw_ld 2 4, sw_ld 0 5, sw_ald 67, sw_inl false 2 [false, false, false, true, true, true], sw_ld 0 5, sw_rv 0] l st P := rfl
theorem at_J2_indexOfRange_2 : sw_at cf b_J2_indexOfRange 2 l st P = sw_ex cf b_J2_indexOfRange [sw_inc 5 1, sw_goto 1 [false, false, false, true, true, true]] l st P := rfl
theorem at_J2_indexOfRange_3 : sw_at cf b_J2_indexOfRange 3 l st P = sw_ex cf b_J2_indexOfRange [sw_goto 7 [false, false, false, false, false, false]] l st P := rfl
theorem at_J2_indexOfRange_4 : sw_at cf b_J2_indexOfRange 4 l st P = sw_ex cf b_J2_indexOfRange [sw_ld 0 2, sw_sti 5, sw_goto 5 [false, true, false, true, true, true]] l st P := rfl
theorem at_J2_indexOfRange_5 : sw_at cf b_J2_indexOfRange 5 l st P = sw_ex cf b_J2_indexOfRange [sw_ld 0 5, sw_ld 0 3, sw_ic 3 7 [false, false, false, false, false, false], sw_ld 2 1, sw_ld 2 4, sw_ld 0 5, sw_ald 67, sw_cv 20 m_J24_equals 1, sw_iz 0 6 [false, true, false, true, true, true], sw_ld 0 5, sw_rv 0] l st P := rfl
theorem at_J2_indexOfRange_6 : sw_at cf b_J2_indexOfRange 6 l st P = sw_ex cf b_J2_indexOfRange [sw_inc 5 1, sw_goto 5 [false, true, false, true, true, true]] l st P := rfl
theorem at_J2_indexOfRange_7 : sw_at cf b_J2_indexOfRange 7 l st P = sw_ex cf b_J2_indexOfRange [sw_push (.int (-1)), sw_rv 0] l st P := rfl
theorem M_J23_init (d : Nat) (as : List Value) (P : sw_P) (h : sw_wd 2 as = true) : sw_Z (d + 1) m_J23_init as P = sw_at (sw_Z d) b_J23_init 0 (sw_en 2 as) [] P := if_pos h
theorem at_J23_init_0 : sw_at cf b_J23_init 0 l st P = sw_ex cf b_J23_init [sw_ld 2 0, sw_ld 2 1, sw_pf 25 3 2, sw_ld 2 0, sw_oin, sw_ld 2 0, sw_push (.int (-1)), sw_pf 25 1 0, sw_ld 2 0, sw_ld 2 0, sw_gf 25 3, sw_gf 24 0, sw_pf 25 2 0, sw_ret] l st P := rfl
theorem M_J23_hasNext (d : Nat) (as : List Value) (P : sw_P) (h : sw_wd 1 as = true) : sw_Z (d + 1) m_J23_hasNext as P = sw_at (sw_Z d) b_J23_hasNext 0 (sw_en 1 as) [] P := if_pos h
theorem at_J23_hasNext_0 : sw_at cf b_J23_hasNext 0 l st P = sw_ex cf b_J23_hasNext [sw_ld 2 0, sw_gf 25 0, sw_ld 2 0, sw_gf 25 3, sw_gf 24 2, sw_ic 0 1 [false], sw_push (.int 1), sw_goto 2 [false]] l st P := rfl
theorem at_J23_hasNext_1 : sw_at cf b_J23_hasNext 1 l st P = sw_ex cf b_J23_hasNext [sw_push (.int 0), sw_goto 2 [false]] l st P := rfl
theorem at_J23_hasNext_2 : sw_at cf b_J23_hasNext 2 l st P = sw_ex cf b_J23_hasNext [sw_rv 1] l st P := rfl
theorem M_J23_next (d : Nat) (as : List Value) (P : sw_P) (h : sw_wd 3 as = true) : sw_Z (d + 1) m_J23_next as P = sw_at (sw_Z d) b_J23_next 0 (sw_en 3 as) [] P := if_pos h
theorem at_J23_next_0 : sw_at cf b_J23_next 0 l st P = sw_ex cf b_J23_next [sw_ld 2 0, sw_cv 25 m_J23_checkForComodification 0, sw_ld 2 0, sw_gf 25 0, sw_sti 1, sw_ld 0 1, sw_ld 2 0, sw_gf 25 3, sw_gf 24 2, sw_ic 2 1 [true, true, false], sw_stop] l st P := rfl
theorem at_J23_next_1 : sw_at cf b_J23_next 1 l st P = sw_ex cf b_J23_next [sw_ld 2 0, sw_gf 25 3, sw_gf 24 1, sw_sta 2, sw_ld 0 1, sw_ld 2 2, sw_al, sw_ic 2 2 [true, true, true], sw_stop] l st P := rfl
theorem at_J23_next_2 : sw_at cf b_J23_next 2 l st P = sw_ex cf b_J23_next [sw_ld 2 0, sw_ld 0 1, sw_push (.int 1), sw_ii (fun x y => x + y), sw_pf 25 0 0, sw_ld 2 2, sw_ld 2 0, sw_ld 0 1, sw_dx1, sw_pf 25 1 0, sw_ald 67, sw_rv 2] l st P := rfl
theorem M_J23_checkForComodification (d : Nat) (as : List Value) (P : sw_P) (h : sw_wd 1 as = true) : sw_Z (d + 1) m_J23_checkForComodification as P = sw_at (sw_Z d) b_J23_checkForComodification 0 (sw_en 1 as) [] P := if_pos h
theorem at_J23_checkForComodification_0 : sw_at cf b_J23_checkForComodification 0 l st P = sw_ex cf b_J23_checkForComodification [sw_ld 2 0, sw_gf 25 3, sw_gf 24 0, sw_ld 2 0, sw_gf 25 2, sw_ic 0 1 [false], sw_stop] l st P := rfl
theorem at_J23_checkForComodification_1 : sw_at cf b_J23_checkForComodification 1 l st P = sw_ex cf b_J23_checkForComodification [sw_ret] l st P := rfl
theorem M_J24_equals (d : Nat) (as : List Value) (P : sw_P) (h : sw_wd 2 as = true) : sw_Z (d + 1) m_J24_equals as P = sw_at (sw_Z d) b_J24_equals 0 (sw_en 2 as) [] P := if_pos h
theorem at_J24_equals_0 : sw_at cf b_J24_equals 0 l st P = sw_ex cf b_J24_equals [sw_ld 2 0, sw_ld 2 1, sw_iac false 1 [false, false], sw_push (.int 1), sw_goto 2 [false, false]] l st P := rfl
theorem at_J24_equals_1 : sw_at cf b_J24_equals 1 l st P = sw_ex cf b_J24_equals [sw_push (.int 0), sw_goto 2 [false, false]] l st P := rfl
theorem at_J24_equals_2 : sw_at cf b_J24_equals 2 l st P = sw_ex cf b_J24_equals [sw_rv 1] l st P := rfl
theorem M_J3_newLength (d : Nat) (as : List Value) (P : sw_P) (h : sw_wd 4 as = true) : sw_Z (d + 1) m_J3_newLength as P = sw_at (sw_Z d) b_J3_newLength 0 (sw_en 4 as) [] P := if_pos h
theorem at_J3_newLength_0 : sw_at cf b_J3_newLength 0 l st P = sw_ex cf b_J3_newLength [sw_ld 0 0, sw_ld 0 1, sw_ld 0 2, sw_mm sw_max, sw_ii (fun x y => x + y), sw_sti 3, sw_push (.int 0), sw_ld 0 3, sw_ic 3 1 [true, true, false, false], sw_ld 0 3, sw_push (.int 2147483639), sw_ic 4 1 [true, true, false, false], sw_ld 0 3, sw_rv 0] l st P := rfl
theorem at_J3_newLength_1 : sw_at cf b_J3_newLength 1 l st P = sw_ex cf b_J3_newLength [sw_ld 0 0, sw_ld 0 1, sw_stop] l st P := rfl
theorem M_J5_copyOf (d : Nat) (as : List Value) (P : sw_P) (h : sw_wd 2 as = true) : sw_Z (d + 1) m_J5_copyOf as P = sw_at (sw_Z d) b_J5_copyOf 0 (sw_en 2 as) [] P := if_pos h
theorem at_J5_copyOf_0 : sw_at cf b_J5_copyOf 0 l st P = sw_ex cf b_J5_copyOf [sw_ld 2 0, sw_ld 0 1, sw_ld 2 0, sw_gc 67, sw_cs m_J5_copyOf_2 3, sw_rv 2] l st P := rfl
theorem M_J5_copyOf_2 (d : Nat) (as : List Value) (P : sw_P) (h : sw_wd 4 as = true) : sw_Z (d + 1) m_J5_copyOf_2 as P = sw_at (sw_Z d) b_J5_copyOf_2 0 (sw_en 4 as) [] P := if_pos h
theorem at_J5_copyOf_2_0 : sw_at cf b_J5_copyOf_2 0 l st P = sw_ex cf b_J5_copyOf_2 [sw_ld 2 2, sw_gs 50, sw_iac false 1 [true, true, true, false], sw_ld 0 1, sw_na 67, sw_goto 2 [true, true, false, false]] l st P := rfl
theorem at_J5_copyOf_2_1 : sw_at cf b_J5_copyOf_2 1 l st P = sw_ex cf b_J5_copyOf_2 [sw_ld 2 2, sw_stop] l st P := rfl
theorem at_J5_copyOf_2_2 : sw_at cf b_J5_copyOf_2 2 l st P = sw_ex cf b_J5_copyOf_2 [sw_sta 3, sw_ld 2 0, sw_push (.int 0), sw_ld 2 3, sw_push (.int 0), sw_ld 2 0, sw_al, sw_ld 0 1, sw_mm sw_min, sw_cp 67, sw_ld 2 3, sw_rv 2] l st P := rfl
theorem M_J6_checkIndex (d : Nat) (as : List Value) (P : sw_P) (h : sw_wd 2 as = true) : sw_Z (d + 1) m_J6_checkIndex as P = sw_at (sw_Z d) b_J6_checkIndex 0 (sw_en 2 as) [] P := if_pos h
theorem at_J6_checkIndex_0 : sw_at cf b_J6_checkIndex 0 l st P = sw_ex cf b_J6_checkIndex [sw_ld 0 0, sw_ld 0 1, sw_push .null, sw_cs m_J7_checkIndex 3, sw_rv 0] l st P := rfl
theorem M_J7_checkIndex (d : Nat) (as : List Value) (P : sw_P) (h : sw_wd 3 as = true) : sw_Z (d + 1) m_J7_checkIndex as P = sw_at (sw_Z d) b_J7_checkIndex 0 (sw_en 3 as) [] P := if_pos h
theorem at_J7_checkIndex_0 : sw_at cf b_J7_checkIndex 0 l st P = sw_ex cf b_J7_checkIndex [sw_ld 0 0, sw_iz 2 1 [true, true, true], sw_ld 0 0, sw_ld 0 1, sw_ic 2 2 [true, false, false], sw_goto 1 [true, true, true]] l st P := rfl
theorem at_J7_checkIndex_1 : sw_at cf b_J7_checkIndex 1 l st P = sw_ex cf b_J7_checkIndex [sw_ld 2 2, sw_ld 0 0, sw_ld 0 1, sw_stop] l st P := rfl
theorem at_J7_checkIndex_2 : sw_at cf b_J7_checkIndex 2 l st P = sw_ex cf b_J7_checkIndex [sw_ld 0 0, sw_rv 0] l st P := rfl
theorem M_J8_ordinal (d : Nat) (as : List Value) (P : sw_P) (h : sw_wd 1 as = true) : sw_Z (d + 1) m_J8_ordinal as P = sw_at (sw_Z d) b_J8_ordinal 0 (sw_en 1 as) [] P := if_pos h
theorem at_J8_ordinal_0 : sw_at cf b_J8_ordinal 0 l st P = sw_ex cf b_J8_ordinal [sw_ld 2 0, sw_gf 40 0, sw_rv 0] l st P := rfl
theorem M_X1_init (d : Nat) (as : List Value) (P : sw_P) (h : sw_wd 1 as = true) : sw_Z (d + 1) m_X1_init as P = sw_at (sw_Z d) b_X1_init 0 (sw_en 1 as) [] P := if_pos h
theorem at_X1_init_0 : sw_at cf b_X1_init 0 l st P = sw_ex cf b_X1_init [sw_ld 2 0, sw_oin, sw_ld 2 0, sw_nw 1 [.null, .null, .null, .int 0], sw_dup, sw_ci m_X2_init 0, sw_pf 0 0 2, sw_ld 2 0, sw_nw 2 [.int 0, .int 0, .int 0, .int 0, .int 0, .null], sw_dup, sw_push (.int 8), sw_push (.int 28), sw_push (.int 15), sw_push (.int 1), sw_push (.int 0), sw_cs m_X1_firstLatencies 0, sw_ci m_X3_init 6, sw_pf 0 1 2, sw_ld 2 0, sw_nw 3 [.null, .null, .null, .null, .null, .int 0], sw_dup, sw_ld 2 0, sw_gf 0 0, sw_ld 2 0, sw_gf 0 1, sw_push (.int 0), sw_ci m_X4_init 3, sw_pf 0 2 2, sw_ret] l st P := rfl
theorem M_X1_firstLatencies (d : Nat) (as : List Value) (P : sw_P) (h : sw_wd 1 as = true) : sw_Z (d + 1) m_X1_firstLatencies as P = sw_at (sw_Z d) b_X1_firstLatencies 0 (sw_en 1 as) [] P := if_pos h
theorem at_X1_firstLatencies_0 : sw_at cf b_X1_firstLatencies 0 l st P = sw_ex cf b_X1_firstLatencies [sw_push (.int 8), sw_na 64, sw_dup, sw_push (.int 0), sw_push (.int 1), sw_ast 64, sw_dup, sw_push (.int 1), sw_push (.int 1), sw_ast 64, sw_dup, sw_push (.int 2), sw_push (.int 1), sw_ast 64, sw_dup, sw_push (.int 3), sw_push (.int 3), sw_ast 64, sw_dup, sw_push (.int 4), sw_push (.int 3), sw_ast 64, sw_dup, sw_push (.int 5), sw_push (.int 2), sw_ast 64, sw_dup, sw_push (.int 6), sw_push (.int 1), sw_ast 64, sw_dup, sw_push (.int 7), sw_push (.int 5), sw_ast 64, sw_sta 0, sw_ld 2 0, sw_rv 2] l st P := rfl
theorem M_X1_has (d : Nat) (as : List Value) (P : sw_P) (h : sw_wd 2 as = true) : sw_Z (d + 1) m_X1_has as P = sw_at (sw_Z d) b_X1_has 0 (sw_en 2 as) [] P := if_pos h
theorem at_X1_has_0 : sw_at cf b_X1_has 0 l st P = sw_ex cf b_X1_has [sw_ld 0 0, sw_ld 0 1, sw_ii (fun x y => x >>> (y &&& 31)), sw_push (.int 1), sw_ii (fun x y => x &&& y), sw_push (.int 1), sw_ic 1 1 [false, false], sw_push (.int 1), sw_goto 2 [false, false]] l st P := rfl
theorem at_X1_has_1 : sw_at cf b_X1_has 1 l st P = sw_ex cf b_X1_has [sw_push (.int 0), sw_goto 2 [false, false]] l st P := rfl
theorem at_X1_has_2 : sw_at cf b_X1_has 2 l st P = sw_ex cf b_X1_has [sw_rv 1] l st P := rfl
theorem M_X1_callOf (d : Nat) (as : List Value) (P : sw_P) (h : sw_wd 2 as = true) : sw_Z (d + 1) m_X1_callOf as P = sw_at (sw_Z d) b_X1_callOf 0 (sw_en 2 as) [] P := if_pos h
theorem at_X1_callOf_0 : sw_at cf b_X1_callOf 0 l st P = sw_ex cf b_X1_callOf [sw_push (.int 3), sw_ld 0 0, sw_ii (fun x y => x * y), sw_push (.int 2), sw_ld 0 1, sw_ii (fun x y => x * y), sw_ii (fun x y => x + y), sw_push (.int 1), sw_ii (fun x y => x + y), sw_rv 0] l st P := rfl
theorem M_X1_meanStall (d : Nat) (as : List Value) (P : sw_P) (h : sw_wd 1 as = true) : sw_Z (d + 1) m_X1_meanStall as P = sw_at (sw_Z d) b_X1_meanStall 0 (sw_en 1 as) [] P := if_pos h
theorem at_X1_meanStall_0 : sw_at cf b_X1_meanStall 0 l st P = sw_ex cf b_X1_meanStall [sw_ld 2 0, sw_gf 0 2, sw_gf 3 3, sw_gf 11 4, sw_iz 1 1 [true], sw_push (.double 0), sw_goto 2 [false]] l st P := rfl
theorem at_X1_meanStall_1 : sw_at cf b_X1_meanStall 1 l st P = sw_ex cf b_X1_meanStall [sw_ld 2 0, sw_gf 0 2, sw_gf 3 3, sw_gf 11 6, sw_i2d, sw_ld 2 0, sw_gf 0 2, sw_gf 3 3, sw_gf 11 4, sw_i2d, sw_dd, sw_goto 2 [false]] l st P := rfl
theorem at_X1_meanStall_2 : sw_at cf b_X1_meanStall 2 l st P = sw_ex cf b_X1_meanStall [sw_rv 4] l st P := rfl
theorem M_X1_enough (d : Nat) (as : List Value) (P : sw_P) (h : sw_wd 1 as = true) : sw_Z (d + 1) m_X1_enough as P = sw_at (sw_Z d) b_X1_enough 0 (sw_en 1 as) [] P := if_pos h
theorem at_X1_enough_0 : sw_at cf b_X1_enough 0 l st P = sw_ex cf b_X1_enough [sw_ld 2 0, sw_cv 0 m_X1_enoughNow 0, sw_rv 0] l st P := rfl
theorem M_X1_enoughNow (d : Nat) (as : List Value) (P : sw_P) (h : sw_wd 3 as = true) : sw_Z (d + 1) m_X1_enoughNow as P = sw_at (sw_Z d) b_X1_enoughNow 0 (sw_en 3 as) [] P := if_pos h
theorem at_X1_enoughNow_0 : sw_at cf b_X1_enoughNow 0 l st P = sw_ex cf b_X1_enoughNow [sw_push (.int 5), sw_sti 1, sw_goto 1 [true, true, false]] l st P := rfl
theorem at_X1_enoughNow_1 : sw_at cf b_X1_enoughNow 1 l st P = sw_ex cf b_X1_enoughNow [sw_ld 0 1, sw_push (.int 11), sw_ic 4 3 [false, false, false], sw_ld 2 0, sw_gf 0 1, sw_gf 2 1, sw_push (.int 1), sw_ld 0 1, sw_push (.int 3), sw_ii (fun x y => x - y), sw_ii (fun x y => x <<< (y &&& 31)), sw_push (.int 1), sw_ii (fun x y => x - y), sw_ii (fun x y => x &&& y), sw_sti 2, sw_ld 2 0, sw_ld 2 0, sw_gf 0 1, sw_ld 0 1, sw_ld 0 2, sw_ld 2 0, sw_gf 0 1, sw_gf 2 4, sw_cv 2 m_X3_with 3, sw_cv 0 m_X1_buildWith 1, sw_push (.int 5), sw_cv 3 m_X4_many 1, sw_iz 1 2 [true, true, false], sw_ld 0 1, sw_rv 0] l st P := rfl
theorem at_X1_enoughNow_2 : sw_at cf b_X1_enoughNow 2 l st P = sw_ex cf b_X1_enoughNow [sw_inc 1 1, sw_goto 1 [true, true, false]] l st P := rfl
theorem at_X1_enoughNow_3 : sw_at cf b_X1_enoughNow 3 l st P = sw_ex cf b_X1_enoughNow [sw_push (.int (-1)), sw_rv 0] l st P := rfl
theorem M_X1_buildWith (d : Nat) (as : List Value) (P : sw_P) (h : sw_wd 2 as = true) : sw_Z (d + 1) m_X1_buildWith as P = sw_at (sw_Z d) b_X1_buildWith 0 (sw_en 2 as) [] P := if_pos h
theorem at_X1_buildWith_0 : sw_at cf b_X1_buildWith 0 l st P = sw_ex cf b_X1_buildWith [sw_nw 3 [.null, .null, .null, .null, .null, .int 0], sw_dup, sw_ld 2 0, sw_gf 0 0, sw_ld 2 1, sw_push (.int 0), sw_ci m_X4_init 3, sw_rv 2] l st P := rfl
theorem M_X1_count (d : Nat) (as : List Value) (P : sw_P) (h : sw_wd 3 as = true) : sw_Z (d + 1) m_X1_count as P = sw_at (sw_Z d) b_X1_count 0 (sw_en 3 as) [] P := if_pos h
theorem at_X1_count_0 : sw_at cf b_X1_count 0 l st P = sw_ex cf b_X1_count [sw_push (.int 0), sw_sti 1, sw_ld 0 0, sw_sti 2, sw_goto 1 [false, true, true]] l st P := rfl
theorem at_X1_count_1 : sw_at cf b_X1_count 1 l st P = sw_ex cf b_X1_count [sw_ld 0 2, sw_iz 5 2 [false, true, false], sw_ld 0 1, sw_ld 0 2, sw_push (.int 2), sw_dvi (fun x y => x - x / y * y), sw_ii (fun x y => x + y), sw_sti 1, sw_ld 0 2, sw_push (.int 2), sw_dvi (fun x y => x / y), sw_sti 2, sw_goto 1 [false, true, true]] l st P := rfl
theorem at_X1_count_2 : sw_at cf b_X1_count 2 l st P = sw_ex cf b_X1_count [sw_ld 0 1, sw_rv 0] l st P := rfl
theorem M_X1_unordered (d : Nat) (as : List Value) (P : sw_P) (h : sw_wd 1 as = true) : sw_Z (d + 1) m_X1_unordered as P = sw_at (sw_Z d) b_X1_unordered 0 (sw_en 1 as) [] P := if_pos h
theorem at_X1_unordered_0 : sw_at cf b_X1_unordered 0 l st P = sw_ex cf b_X1_unordered [sw_ld 2 0, sw_cv 0 m_X1_unorderedNow 0, sw_rv 0] l st P := rfl
theorem M_X1_unorderedNow (d : Nat) (as : List Value) (P : sw_P) (h : sw_wd 1 as = true) : sw_Z (d + 1) m_X1_unorderedNow as P = sw_at (sw_Z d) b_X1_unorderedNow 0 (sw_en 1 as) [] P := if_pos h
theorem at_X1_unorderedNow_0 : sw_at cf b_X1_unorderedNow 0 l st P = sw_ex cf b_X1_unorderedNow [sw_nw 3 [.null, .null, .null, .null, .null, .int 0], sw_dup, sw_ld 2 0, sw_gf 0 0, sw_ld 2 0, sw_gf 0 1, sw_push (.int 1), sw_ci m_X4_init 3, sw_gf 3 3, sw_gf 11 7, sw_ld 2 0, sw_gf 0 2, sw_gf 3 3, sw_gf 11 7, sw_ii (fun x y => x - y), sw_rv 0] l st P := rfl
theorem M_X1_digest (d : Nat) (as : List Value) (P : sw_P) (h : sw_wd 4 as = true) : sw_Z (d + 1) m_X1_digest as P = sw_at (sw_Z d) b_X1_digest 0 (sw_en 4 as) [] P := if_pos h
theorem at_X1_digest_0 : sw_at cf b_X1_digest 0 l st P = sw_ex cf b_X1_digest [sw_push (.long 58132), sw_stl 1, sw_push (.int 0), sw_sti 3, sw_goto 1 [true, true, false, true]] l st P := rfl
theorem at_X1_digest_1 : sw_at cf b_X1_digest 1 l st P = sw_ex cf b_X1_digest [sw_ld 0 3, sw_push (.int 15), sw_ic 4 2 [true, true, false, false], sw_ld 3 1, sw_push (.int 1), sw_na 64, sw_dup, sw_push (.int 0), sw_ld 2 0, sw_ld 0 3, sw_cv 0 m_X1_manyNow 1, sw_ast 64, sw_cs m_X1_mix 2, sw_stl 1, sw_inc 3 1, sw_goto 1 [true, true, false, true]] l st P := rfl
theorem at_X1_digest_2 : sw_at cf b_X1_digest 2 l st P = sw_ex cf b_X1_digest [sw_ld 3 1, sw_ld 2 0, sw_gf 0 0, sw_cv 1 m_X2_meant 0, sw_cs m_X1_mix 2, sw_stl 1, sw_push (.int 0), sw_sti 3, sw_goto 3 [true, true, false, true]] l st P := rfl
theorem at_X1_digest_3 : sw_at cf b_X1_digest 3 l st P = sw_ex cf b_X1_digest [sw_ld 0 3, sw_push (.int 8), sw_ic 3 5 [true, true, false, false], sw_ld 2 0, sw_gf 0 0, sw_gf 1 3, sw_ld 0 3, sw_cs m_X1_has 2, sw_iz 0 4 [true, true, false, true], sw_ld 3 1, sw_push (.int 1), sw_na 64, sw_dup, sw_push (.int 0), sw_ld 2 0, sw_gf 0 2, sw_ld 0 3, sw_cv 3 m_X4_answer 1, sw_ast 64, sw_cs m_X1_mix 2, sw_stl 1, sw_goto 4 [true, true, false, true]] l st P := rfl
theorem at_X1_digest_4 : sw_at cf b_X1_digest 4 l st P = sw_ex cf b_X1_digest [sw_inc 3 1, sw_goto 3 [true, true, false, true]] l st P := rfl
theorem at_X1_digest_5 : sw_at cf b_X1_digest 5 l st P = sw_ex cf b_X1_digest [sw_ld 2 0, sw_ld 2 0, sw_ld 2 0, sw_ld 3 1, sw_cv 0 m_X1_mixChosen 1, sw_cv 0 m_X1_mixValues 1, sw_cv 0 m_X1_mixCode 1, sw_stl 1, sw_ld 2 0, sw_ld 2 0, sw_gf 0 1, sw_push (.int 6), sw_push (.int 4), sw_push (.int 1), sw_cv 2 m_X3_with 3, sw_cv 0 m_X1_buildWith 1, sw_sta 3, sw_ld 3 1, sw_push (.int 4), sw_na 64, sw_dup, sw_push (.int 0), sw_ld 2 0, sw_cv 0 m_X1_enoughNow 0, sw_ast 64, sw_dup, sw_push (.int 1), sw_ld 2 0, sw_cv 0 m_X1_unorderedNow 0, sw_ast 64, sw_dup, sw_push (.int 2), sw_ld 2 3, sw_push (.int 9), sw_cv 3 m_X4_many 1, sw_ast 64, sw_dup, sw_push (.int 3), sw_ld 2 3, sw_push (.int 13), sw_cv 3 m_X4_many 1, sw_ast 64, sw_cs m_X1_mix 2, sw_rv 3] l st P := rfl
theorem M_X1_manyNow (d : Nat) (as : List Value) (P : sw_P) (h : sw_wd 2 as = true) : sw_Z (d + 1) m_X1_manyNow as P = sw_at (sw_Z d) b_X1_manyNow 0 (sw_en 2 as) [] P := if_pos h
theorem at_X1_manyNow_0 : sw_at cf b_X1_manyNow 0 l st P = sw_ex cf b_X1_manyNow [sw_ld 0 1, sw_sw [(0, 1, [true, false]), (1, 2, [true, false]), (2, 3, [true, false])] (4, [true, true])] l st P := rfl
theorem at_X1_manyNow_1 : sw_at cf b_X1_manyNow 1 l st P = sw_ex cf b_X1_manyNow [sw_ld 2 0, sw_gf 0 0, sw_gf 1 0, sw_cv 24 m_J2_size 0, sw_rv 0] l st P := rfl
theorem at_X1_manyNow_2 : sw_at cf b_X1_manyNow 2 l st P = sw_ex cf b_X1_manyNow [sw_ld 2 0, sw_cv 0 m_X1_freeNodes 0, sw_rv 0] l st P := rfl
theorem at_X1_manyNow_3 : sw_at cf b_X1_manyNow 3 l st P = sw_ex cf b_X1_manyNow [sw_ld 2 0, sw_gf 0 0, sw_cv 1 m_X2_statements 0, sw_rv 0] l st P := rfl
theorem at_X1_manyNow_4 : sw_at cf b_X1_manyNow 4 l st P = sw_ex cf b_X1_manyNow [sw_ld 2 0, sw_gf 0 2, sw_ld 0 1, sw_cv 3 m_X4_many 1, sw_rv 0] l st P := rfl
theorem M_X1_freeNodes (d : Nat) (as : List Value) (P : sw_P) (h : sw_wd 3 as = true) : sw_Z (d + 1) m_X1_freeNodes as P = sw_at (sw_Z d) b_X1_freeNodes 0 (sw_en 3 as) [] P := if_pos h
theorem at_X1_freeNodes_0 : sw_at cf b_X1_freeNodes 0 l st P = sw_ex cf b_X1_freeNodes [sw_push (.int 0), sw_sti 1, sw_push (.int 0), sw_sti 2, sw_goto 1 [true, true, true]] l st P := rfl
theorem at_X1_freeNodes_1 : sw_at cf b_X1_freeNodes 1 l st P = sw_ex cf b_X1_freeNodes [sw_ld 0 2, sw_ld 2 0, sw_gf 0 0, sw_gf 1 0, sw_cv 24 m_J2_size 0, sw_ic 3 4 [false, true, false], sw_ld 0 1, sw_ld 2 0, sw_gf 0 0, sw_ld 0 2, sw_cv 1 m_X2_at 1, sw_gf 15 3, sw_iz 0 2 [true, false, true], sw_push (.int 0), sw_goto 3 [true, false, true]] l st P := rfl
theorem at_X1_freeNodes_2 : sw_at cf b_X1_freeNodes 2 l st P = sw_ex cf b_X1_freeNodes [sw_push (.int 1), sw_goto 3 [true, false, true]] l st P := rfl
theorem at_X1_freeNodes_3 : sw_at cf b_X1_freeNodes 3 l st P = sw_ex cf b_X1_freeNodes [sw_ii (fun x y => x + y), sw_sti 1, sw_inc 2 1, sw_goto 1 [true, true, true]] l st P := rfl
theorem at_X1_freeNodes_4 : sw_at cf b_X1_freeNodes 4 l st P = sw_ex cf b_X1_freeNodes [sw_ld 0 1, sw_rv 0] l st P := rfl
theorem M_X1_mix (d : Nat) (as : List Value) (P : sw_P) (h : sw_wd 9 as = true) : sw_Z (d + 1) m_X1_mix as P = sw_at (sw_Z d) b_X1_mix 0 (sw_en 9 as) [] P := if_pos h
theorem at_X1_mix_0 : sw_at cf b_X1_mix 0 l st P = sw_ex cf b_X1_mix [sw_ld 3 0, sw_stl 3, sw_ld 2 2, sw_sta 5, sw_ld 2 5, sw_al, sw_sti 6, sw_push (.int 0), sw_sti 7, sw_goto 1 [false, false, false, true, false, true, true, true, false]] l st P := rfl
theorem at_X1_mix_1 : sw_at cf b_X1_mix 1 l st P = sw_ex cf b_X1_mix [sw_ld 0 7, sw_ld 0 6, sw_ic 3 2 [false, false, false, true, false, false, false, false, false], sw_ld 2 5, sw_ld 0 7, sw_ald 64, sw_sti 8, sw_ld 3 3, sw_push (.long 31), sw_ll (fun x y => x * y), sw_ld 0 8, sw_i2l, sw_ll (fun x y => x + y), sw_stl 3, sw_inc 7 1, sw_goto 1 [false, false, false, true, false, true, true, true, false]] l st P := rfl
theorem at_X1_mix_2 : sw_at cf b_X1_mix 2 l st P = sw_ex cf b_X1_mix [sw_ld 3 3, sw_rv 3] l st P := rfl
theorem M_X1_mixChosen (d : Nat) (as : List Value) (P : sw_P) (h : sw_wd 7 as = true) : sw_Z (d + 1) m_X1_mixChosen as P = sw_at (sw_Z d) b_X1_mixChosen 0 (sw_en 7 as) [] P := if_pos h
theorem at_X1_mixChosen_0 : sw_at cf b_X1_mixChosen 0 l st P = sw_ex cf b_X1_mixChosen [sw_ld 3 1, sw_stl 3, sw_push (.int 0), sw_sti 5, sw_goto 1 [true, false, false, true, false, true, false]] l st P := rfl
theorem at_X1_mixChosen_1 : sw_at cf b_X1_mixChosen 1 l st P = sw_ex cf b_X1_mixChosen [sw_ld 0 5, sw_ld 2 0, sw_gf 0 2, sw_gf 3 0, sw_cv 24 m_J2_size 0, sw_ic 3 4 [false, false, false, true, false, false, false], sw_push (.int 0), sw_sti 6, sw_goto 2 [true, false, false, true, false, true, true]] l st P := rfl
theorem at_X1_mixChosen_2 : sw_at cf b_X1_mixChosen 2 l st P = sw_ex cf b_X1_mixChosen [sw_ld 0 6, sw_push (.int 7), sw_ic 4 3 [true, false, false, true, false, true, false], sw_ld 3 3, sw_push (.int 1), sw_na 64, sw_dup, sw_push (.int 0), sw_ld 2 0, sw_ld 0 5, sw_ld 0 6, sw_cv 0 m_X1_chosenNow 2, sw_ast 64, sw_cs m_X1_mix 2, sw_stl 3, sw_inc 6 1, sw_goto 2 [true, false, false, true, false, true, true]] l st P := rfl
theorem at_X1_mixChosen_3 : sw_at cf b_X1_mixChosen 3 l st P = sw_ex cf b_X1_mixChosen [sw_inc 5 1, sw_goto 1 [true, false, false, true, false, true, false]] l st P := rfl
theorem at_X1_mixChosen_4 : sw_at cf b_X1_mixChosen 4 l st P = sw_ex cf b_X1_mixChosen [sw_ld 3 3, sw_rv 3] l st P := rfl
theorem M_X1_chosenNow (d : Nat) (as : List Value) (P : sw_P) (h : sw_wd 4 as = true) : sw_Z (d + 1) m_X1_chosenNow as P = sw_at (sw_Z d) b_X1_chosenNow 0 (sw_en 4 as) [] P := if_pos h
theorem at_X1_chosenNow_0 : sw_at cf b_X1_chosenNow 0 l st P = sw_ex cf b_X1_chosenNow [sw_ld 2 0, sw_gf 0 2, sw_gf 3 0, sw_ld 0 1, sw_cv 24 m_J2_get 1, sw_ct [6], sw_sta 3, sw_ld 0 2, sw_sw [(0, 1, [false, false, false, true]), (1, 2, [false, false, false, true]), (2, 6, [false, false, true, true]), (3, 6, [false, false, true, true]), (4, 6, [false, false, true, true]), (5, 3, [false, false, false, true]), (6, 4, [false, false, false, true]), (7, 5, [false, false, false, true])] (6, [false, false, true, true])] l st P := rfl
theorem at_X1_chosenNow_1 : sw_at cf b_X1_chosenNow 1 l st P = sw_ex cf b_X1_chosenNow [sw_ld 2 3, sw_gf 6 0, sw_rv 0] l st P := rfl
theorem at_X1_chosenNow_2 : sw_at cf b_X1_chosenNow 2 l st P = sw_ex cf b_X1_chosenNow [sw_ld 2 3, sw_gf 6 1, sw_rv 0] l st P := rfl
theorem at_X1_chosenNow_3 : sw_at cf b_X1_chosenNow 3 l st P = sw_ex cf b_X1_chosenNow [sw_ld 2 3, sw_gf 6 3, sw_rv 0] l st P := rfl
theorem at_X1_chosenNow_4 : sw_at cf b_X1_chosenNow 4 l st P = sw_ex cf b_X1_chosenNow [sw_ld 2 3, sw_gf 6 4, sw_rv 0] l st P := rfl
theorem at_X1_chosenNow_5 : sw_at cf b_X1_chosenNow 5 l st P = sw_ex cf b_X1_chosenNow [sw_ld 2 3, sw_gf 6 5, sw_rv 0] l st P := rfl
theorem at_X1_chosenNow_6 : sw_at cf b_X1_chosenNow 6 l st P = sw_ex cf b_X1_chosenNow [sw_ld 2 3, sw_ld 0 2, sw_push (.int 2), sw_ii (fun x y => x - y), sw_cs m_X1_readAt 2, sw_rv 0] l st P := rfl
theorem M_X1_readAt (d : Nat) (as : List Value) (P : sw_P) (h : sw_wd 2 as = true) : sw_Z (d + 1) m_X1_readAt as P = sw_at (sw_Z d) b_X1_readAt 0 (sw_en 2 as) [] P := if_pos h
theorem at_X1_readAt_0 : sw_at cf b_X1_readAt 0 l st P = sw_ex cf b_X1_readAt [sw_ld 0 1, sw_ld 2 0, sw_gf 6 2, sw_al, sw_ic 3 1 [false, false], sw_ld 2 0, sw_gf 6 2, sw_ld 0 1, sw_ald 64, sw_goto 2 [false, false]] l st P := rfl
theorem at_X1_readAt_1 : sw_at cf b_X1_readAt 1 l st P = sw_ex cf b_X1_readAt [sw_push (.int (-1)), sw_goto 2 [false, false]] l st P := rfl
theorem at_X1_readAt_2 : sw_at cf b_X1_readAt 2 l st P = sw_ex cf b_X1_readAt [sw_rv 0] l st P := rfl
theorem M_X1_mixValues (d : Nat) (as : List Value) (P : sw_P) (h : sw_wd 7 as = true) : sw_Z (d + 1) m_X1_mixValues as P = sw_at (sw_Z d) b_X1_mixValues 0 (sw_en 7 as) [] P := if_pos h
theorem at_X1_mixValues_0 : sw_at cf b_X1_mixValues 0 l st P = sw_ex cf b_X1_mixValues [sw_ld 3 1, sw_stl 3, sw_push (.int 0), sw_sti 5, sw_goto 1 [true, false, false, true, false, true, false]] l st P := rfl
theorem at_X1_mixValues_1 : sw_at cf b_X1_mixValues 1 l st P = sw_ex cf b_X1_mixValues [sw_ld 0 5, sw_ld 2 0, sw_gf 0 2, sw_gf 3 5, sw_ic 3 5 [false, false, false, true, false, false, false], sw_ld 2 0, sw_gf 0 2, sw_gf 3 1, sw_ld 0 5, sw_cv 7 m_X8_placeOf 1, sw_push (.int (-1)), sw_ic 1 2 [true, false, false, true, false, true, false], sw_goto 4 [true, false, false, true, false, true, false]] l st P := rfl
theorem at_X1_mixValues_2 : sw_at cf b_X1_mixValues 2 l st P = sw_ex cf b_X1_mixValues [sw_ld 3 3, sw_push (.int 1), sw_na 64, sw_dup, sw_push (.int 0), sw_ld 0 5, sw_ast 64, sw_cs m_X1_mix 2, sw_stl 3, sw_push (.int 0), sw_sti 6, sw_goto 3 [true, false, false, true, false, true, true]] l st P := rfl
theorem at_X1_mixValues_3 : sw_at cf b_X1_mixValues 3 l st P = sw_ex cf b_X1_mixValues [sw_ld 0 6, sw_push (.int 7), sw_ic 4 4 [true, false, false, true, false, true, false], sw_ld 3 3, sw_push (.int 1), sw_na 64, sw_dup, sw_push (.int 0), sw_ld 2 0, sw_gf 0 2, sw_gf 3 1, sw_ld 0 5, sw_cv 7 m_X8_of 1, sw_ld 0 6, sw_cs m_X1_lifeNow 2, sw_ast 64, sw_cs m_X1_mix 2, sw_stl 3, sw_inc 6 1, sw_goto 3 [true, false, false, true, false, true, true]] l st P := rfl
theorem at_X1_mixValues_4 : sw_at cf b_X1_mixValues 4 l st P = sw_ex cf b_X1_mixValues [sw_inc 5 1, sw_goto 1 [true, false, false, true, false, true, false]] l st P := rfl
theorem at_X1_mixValues_5 : sw_at cf b_X1_mixValues 5 l st P = sw_ex cf b_X1_mixValues [sw_ld 3 3, sw_rv 3] l st P := rfl
theorem M_X1_lifeNow (d : Nat) (as : List Value) (P : sw_P) (h : sw_wd 2 as = true) : sw_Z (d + 1) m_X1_lifeNow as P = sw_at (sw_Z d) b_X1_lifeNow 0 (sw_en 2 as) [] P := if_pos h
theorem at_X1_lifeNow_0 : sw_at cf b_X1_lifeNow 0 l st P = sw_ex cf b_X1_lifeNow [sw_ld 0 1, sw_sw [(0, 1, [true, false]), (1, 2, [true, false]), (2, 3, [true, false]), (3, 4, [true, false]), (4, 5, [true, false]), (5, 6, [true, false]), (6, 9, [true, false])] (10, [true, false])] l st P := rfl
theorem at_X1_lifeNow_1 : sw_at cf b_X1_lifeNow 1 l st P = sw_ex cf b_X1_lifeNow [sw_ld 2 0, sw_gf 8 1, sw_rv 0] l st P := rfl
theorem at_X1_lifeNow_2 : sw_at cf b_X1_lifeNow 2 l st P = sw_ex cf b_X1_lifeNow [sw_ld 2 0, sw_gf 8 2, sw_rv 0] l st P := rfl
theorem at_X1_lifeNow_3 : sw_at cf b_X1_lifeNow 3 l st P = sw_ex cf b_X1_lifeNow [sw_ld 2 0, sw_cv 8 m_X9_weight 0, sw_rv 0] l st P := rfl
theorem at_X1_lifeNow_4 : sw_at cf b_X1_lifeNow 4 l st P = sw_ex cf b_X1_lifeNow [sw_ld 2 0, sw_gf 8 7, sw_rv 0] l st P := rfl
theorem at_X1_lifeNow_5 : sw_at cf b_X1_lifeNow 5 l st P = sw_ex cf b_X1_lifeNow [sw_ld 2 0, sw_gf 8 9, sw_rv 0] l st P := rfl
theorem at_X1_lifeNow_6 : sw_at cf b_X1_lifeNow 6 l st P = sw_ex cf b_X1_lifeNow [sw_ld 2 0, sw_cv 8 m_X9_isRemade 0, sw_iz 0 7 [false, false], sw_push (.int 1), sw_goto 8 [false, false]] l st P := rfl
theorem at_X1_lifeNow_7 : sw_at cf b_X1_lifeNow 7 l st P = sw_ex cf b_X1_lifeNow [sw_push (.int 0), sw_goto 8 [false, false]] l st P := rfl
theorem at_X1_lifeNow_8 : sw_at cf b_X1_lifeNow 8 l st P = sw_ex cf b_X1_lifeNow [sw_rv 0] l st P := rfl
theorem at_X1_lifeNow_9 : sw_at cf b_X1_lifeNow 9 l st P = sw_ex cf b_X1_lifeNow [sw_ld 2 0, sw_gf 8 6, sw_rv 0] l st P := rfl
theorem at_X1_lifeNow_10 : sw_at cf b_X1_lifeNow 10 l st P = sw_ex cf b_X1_lifeNow [sw_ld 2 0, sw_gf 8 3, sw_ld 2 0, sw_gf 8 4, sw_ii (fun x y => x + y), sw_rv 0] l st P := rfl
theorem M_X1_mixCode (d : Nat) (as : List Value) (P : sw_P) (h : sw_wd 7 as = true) : sw_Z (d + 1) m_X1_mixCode as P = sw_at (sw_Z d) b_X1_mixCode 0 (sw_en 7 as) [] P := if_pos h
theorem at_X1_mixCode_0 : sw_at cf b_X1_mixCode 0 l st P = sw_ex cf b_X1_mixCode [sw_ld 3 1, sw_stl 3, sw_push (.int 0), sw_sti 5, sw_goto 1 [true, false, false, true, false, true, false]] l st P := rfl
theorem at_X1_mixCode_1 : sw_at cf b_X1_mixCode 1 l st P = sw_ex cf b_X1_mixCode [sw_ld 0 5, sw_ld 2 0, sw_gf 0 2, sw_gf 3 0, sw_cv 24 m_J2_size 0, sw_ic 3 4 [true, false, false, true, false, false, false], sw_push (.int 0), sw_sti 6, sw_goto 2 [true, false, false, true, false, true, true]] l st P := rfl
theorem at_X1_mixCode_2 : sw_at cf b_X1_mixCode 2 l st P = sw_ex cf b_X1_mixCode [sw_ld 0 6, sw_push (.int 3), sw_ic 4 3 [true, false, false, true, false, true, false], sw_ld 2 0, sw_gf 0 2, sw_gf 3 0, sw_ld 0 5, sw_cv 24 m_J2_get 1, sw_ct [6], sw_push (.int 9), sw_cv 6 m_X7_is 1, sw_iz 0 3 [true, false, false, true, false, true, false], sw_ld 3 3, sw_push (.int 1), sw_na 64, sw_dup, sw_push (.int 0), sw_ld 2 0, sw_ld 0 5, sw_ld 0 6, sw_cv 0 m_X1_mapNow 2, sw_ast 64, sw_cs m_X1_mix 2, sw_stl 3, sw_inc 6 1, sw_goto 2 [true, false, false, true, false, true, true]] l st P := rfl
theorem at_X1_mixCode_3 : sw_at cf b_X1_mixCode 3 l st P = sw_ex cf b_X1_mixCode [sw_inc 5 1, sw_goto 1 [true, false, false, true, false, true, false]] l st P := rfl
theorem at_X1_mixCode_4 : sw_at cf b_X1_mixCode 4 l st P = sw_ex cf b_X1_mixCode [sw_push (.int 0), sw_sti 5, sw_goto 5 [true, false, false, true, false, true, false]] l st P := rfl
theorem at_X1_mixCode_5 : sw_at cf b_X1_mixCode 5 l st P = sw_ex cf b_X1_mixCode [sw_ld 0 5, sw_ld 2 0, sw_gf 0 2, sw_gf 3 2, sw_cv 24 m_J2_size 0, sw_ic 3 8 [false, false, false, true, false, false, false], sw_push (.int 0), sw_sti 6, sw_goto 6 [true, false, false, true, false, true, true]] l st P := rfl
theorem at_X1_mixCode_6 : sw_at cf b_X1_mixCode 6 l st P = sw_ex cf b_X1_mixCode [sw_ld 0 6, sw_push (.int 5), sw_ic 4 7 [true, false, false, true, false, true, false], sw_ld 3 3, sw_push (.int 1), sw_na 64, sw_dup, sw_push (.int 0), sw_ld 2 0, sw_ld 0 5, sw_ld 0 6, sw_cv 0 m_X1_codeNow 2, sw_ast 64, sw_cs m_X1_mix 2, sw_stl 3, sw_inc 6 1, sw_goto 6 [true, false, false, true, false, true, true]] l st P := rfl
theorem at_X1_mixCode_7 : sw_at cf b_X1_mixCode 7 l st P = sw_ex cf b_X1_mixCode [sw_ld 3 3, sw_push (.int 1), sw_na 64, sw_dup, sw_push (.int 0), sw_ld 2 0, sw_gf 0 2, sw_gf 3 2, sw_ld 0 5, sw_cv 24 m_J2_get 1, sw_ct [10], sw_gf 10 6, sw_ast 64, sw_cs m_X1_mix 2, sw_stl 3, sw_inc 5 1, sw_goto 5 [true, false, false, true, false, true, false]] l st P := rfl
theorem at_X1_mixCode_8 : sw_at cf b_X1_mixCode 8 l st P = sw_ex cf b_X1_mixCode [sw_ld 3 3, sw_rv 3] l st P := rfl
theorem M_X1_mapNow (d : Nat) (as : List Value) (P : sw_P) (h : sw_wd 8 as = true) : sw_Z (d + 1) m_X1_mapNow as P = sw_at (sw_Z d) b_X1_mapNow 0 (sw_en 8 as) [] P := if_pos h
theorem at_X1_mapNow_0 : sw_at cf b_X1_mapNow 0 l st P = sw_ex cf b_X1_mapNow [sw_ld 0 2, sw_iz 1 1 [true, true, true, false, false, false, false, false], sw_ld 0 1, sw_rv 0] l st P := rfl
theorem at_X1_mapNow_1 : sw_at cf b_X1_mapNow 1 l st P = sw_ex cf b_X1_mapNow [sw_push (.int 0), sw_sti 3, sw_push (.int 0), sw_sti 4, sw_goto 2 [true, true, true, true, true, false, false, false]] l st P := rfl
theorem at_X1_mapNow_2 : sw_at cf b_X1_mapNow 2 l st P = sw_ex cf b_X1_mapNow [sw_ld 0 4, sw_ld 2 0, sw_gf 0 2, sw_gf 3 1, sw_gf 7 3, sw_cv 24 m_J2_size 0, sw_ic 3 11 [false, false, false, true, false, false, false, false], sw_ld 2 0, sw_gf 0 2, sw_gf 3 1, sw_gf 7 3, sw_ld 0 4, sw_cv 24 m_J2_get 1, sw_ct [8], sw_sta 5, sw_ld 0 2, sw_push (.int 1), sw_ic 1 3 [true, true, true, true, true, true, false, false], sw_ld 2 5, sw_gf 8 7, sw_goto 4 [true, true, true, true, true, true, false, false]] l st P := rfl
theorem at_X1_mapNow_3 : sw_at cf b_X1_mapNow 3 l st P = sw_ex cf b_X1_mapNow [sw_ld 2 5, sw_gf 8 9, sw_goto 4 [true, true, true, true, true, true, false, false]] l st P := rfl
theorem at_X1_mapNow_4 : sw_at cf b_X1_mapNow 4 l st P = sw_ex cf b_X1_mapNow [sw_sti 6, sw_ld 0 2, sw_push (.int 3), sw_ic 1 5 [true, true, true, true, true, true, true, false], sw_ld 2 5, sw_cv 8 m_X9_isRemade 0, sw_goto 7 [true, true, true, true, true, true, true, false]] l st P := rfl
theorem at_X1_mapNow_5 : sw_at cf b_X1_mapNow 5 l st P = sw_ex cf b_X1_mapNow [sw_ld 0 6, sw_push (.int (-1)), sw_ic 0 6 [true, true, true, true, true, true, true, false], sw_push (.int 1), sw_goto 7 [true, true, true, true, true, true, true, false]] l st P := rfl
theorem at_X1_mapNow_6 : sw_at cf b_X1_mapNow 6 l st P = sw_ex cf b_X1_mapNow [sw_push (.int 0), sw_goto 7 [true, true, true, true, true, true, true, false]] l st P := rfl
theorem at_X1_mapNow_7 : sw_at cf b_X1_mapNow 7 l st P = sw_ex cf b_X1_mapNow [sw_sti 7, sw_ld 2 5, sw_ld 0 1, sw_cv 8 m_X9_crosses 1, sw_iz 0 10 [true, true, true, true, true, false, false, false], sw_ld 0 7, sw_iz 0 10 [true, true, true, true, true, false, false, false], sw_ld 0 2, sw_push (.int 3), sw_ic 1 8 [true, true, true, true, true, false, true, false], sw_ld 0 3, sw_push (.int 1), sw_ii (fun x y => x + y), sw_goto 9 [true, true, true, false, true, false, false, false]] l st P := rfl
theorem at_X1_mapNow_8 : sw_at cf b_X1_mapNow 8 l st P = sw_ex cf b_X1_mapNow [sw_ld 0 3, sw_push (.int 1), sw_ld 0 6, sw_ii (fun x y => x <<< (y &&& 31)), sw_ii (fun x y => x ||| y), sw_goto 9 [true, true, true, false, true, false, false, false]] l st P := rfl
theorem at_X1_mapNow_9 : sw_at cf b_X1_mapNow 9 l st P = sw_ex cf b_X1_mapNow [sw_sti 3, sw_goto 10 [true, true, true, true, true, false, false, false]] l st P := rfl
theorem at_X1_mapNow_10 : sw_at cf b_X1_mapNow 10 l st P = sw_ex cf b_X1_mapNow [sw_inc 4 1, sw_goto 2 [true, true, true, true, true, false, false, false]] l st P := rfl
theorem at_X1_mapNow_11 : sw_at cf b_X1_mapNow 11 l st P = sw_ex cf b_X1_mapNow [sw_ld 0 3, sw_rv 0] l st P := rfl
theorem M_X1_codeNow (d : Nat) (as : List Value) (P : sw_P) (h : sw_wd 4 as = true) : sw_Z (d + 1) m_X1_codeNow as P = sw_at (sw_Z d) b_X1_codeNow 0 (sw_en 4 as) [] P := if_pos h
theorem at_X1_codeNow_0 : sw_at cf b_X1_codeNow 0 l st P = sw_ex cf b_X1_codeNow [sw_ld 2 0, sw_gf 0 2, sw_gf 3 2, sw_ld 0 1, sw_cv 24 m_J2_get 1, sw_ct [10], sw_sta 3, sw_ld 0 2, sw_iz 1 1 [false, false, true, true], sw_ld 2 3, sw_gf 10 0, sw_goto 3 [false, false, false, false]] l st P := rfl
theorem at_X1_codeNow_1 : sw_at cf b_X1_codeNow 1 l st P = sw_ex cf b_X1_codeNow [sw_ld 0 2, sw_push (.int 5), sw_ic 1 2 [false, false, true, true], sw_ld 2 3, sw_gf 10 5, sw_goto 3 [false, false, false, false]] l st P := rfl
theorem at_X1_codeNow_2 : sw_at cf b_X1_codeNow 2 l st P = sw_ex cf b_X1_codeNow [sw_ld 2 3, sw_ld 0 2, sw_push (.int 1), sw_ii (fun x y => x - y), sw_cv 10 m_X11_operand 1, sw_goto 3 [false, false, false, false]] l st P := rfl
theorem at_X1_codeNow_3 : sw_at cf b_X1_codeNow 3 l st P = sw_ex cf b_X1_codeNow [sw_rv 0] l st P := rfl
theorem M_X1_machine (d : Nat) (as : List Value) (P : sw_P) (h : sw_wd 7 as = true) : sw_Z (d + 1) m_X1_machine as P = sw_at (sw_Z d) b_X1_machine 0 (sw_en 7 as) [] P := if_pos h
theorem at_X1_machine_0 : sw_at cf b_X1_machine 0 l st P = sw_ex cf b_X1_machine [sw_ld 0 1, sw_ld 0 2, sw_cs m_X1_mustBeMachine 2, sw_ld 0 3, sw_push (.int 0), sw_push (.int 99), sw_cs m_X1_mustBeIn 3, sw_ld 2 0, sw_gf 0 1, sw_gf 2 0, sw_sti 6, sw_ld 2 0, sw_nw 2 [.int 0, .int 0, .int 0, .int 0, .int 0, .null], sw_dup, sw_ld 0 1, sw_ld 0 2, sw_ld 0 3, sw_ld 0 4, sw_ld 0 5, sw_ld 2 0, sw_gf 0 1, sw_gf 2 5, sw_ci m_X3_init 6, sw_pf 0 1 2, sw_ld 2 0, sw_cv 0 m_X1_renew 0, sw_ld 0 6, sw_rv 0] l st P := rfl
theorem M_X1_mustBeMachine (d : Nat) (as : List Value) (P : sw_P) (h : sw_wd 3 as = true) : sw_Z (d + 1) m_X1_mustBeMachine as P = sw_at (sw_Z d) b_X1_mustBeMachine 0 (sw_en 3 as) [] P := if_pos h
theorem at_X1_mustBeMachine_0 : sw_at cf b_X1_mustBeMachine 0 l st P = sw_ex cf b_X1_mustBeMachine [sw_ld 0 0, sw_push (.int 5), sw_push (.int 11), sw_cs m_X1_mustBeIn 3, sw_push (.int 1), sw_ld 0 0, sw_push (.int 3), sw_ii (fun x y => x - y), sw_ii (fun x y => x <<< (y &&& 31)), sw_push (.int 4), sw_ii (fun x y => x - y), sw_sti 2, sw_ld 0 1, sw_iz 2 1 [false, false, false], sw_ld 0 1, sw_ld 0 2, sw_push (.int (-1)), sw_ii (fun x y => x ^^^ y), sw_ii (fun x y => x &&& y), sw_iz 1 1 [false, false, false], sw_push (.int 1), sw_goto 2 [false, false, false]] l st P := rfl
theorem at_X1_mustBeMachine_1 : sw_at cf b_X1_mustBeMachine 1 l st P = sw_ex cf b_X1_mustBeMachine [sw_push (.int 0), sw_goto 2 [false, false, false]] l st P := rfl
theorem at_X1_mustBeMachine_2 : sw_at cf b_X1_mustBeMachine 2 l st P = sw_ex cf b_X1_mustBeMachine [sw_cs m_X1_must 1, sw_ret] l st P := rfl
theorem M_X1_mustBeIn (d : Nat) (as : List Value) (P : sw_P) (h : sw_wd 3 as = true) : sw_Z (d + 1) m_X1_mustBeIn as P = sw_at (sw_Z d) b_X1_mustBeIn 0 (sw_en 3 as) [] P := if_pos h
theorem at_X1_mustBeIn_0 : sw_at cf b_X1_mustBeIn 0 l st P = sw_ex cf b_X1_mustBeIn [sw_ld 0 0, sw_ld 0 1, sw_ic 2 1 [false, false, false], sw_ld 0 0, sw_ld 0 2, sw_ic 4 1 [false, false, false], sw_push (.int 1), sw_goto 2 [false, false, false]] l st P := rfl
theorem at_X1_mustBeIn_1 : sw_at cf b_X1_mustBeIn 1 l st P = sw_ex cf b_X1_mustBeIn [sw_push (.int 0), sw_goto 2 [false, false, false]] l st P := rfl
theorem at_X1_mustBeIn_2 : sw_at cf b_X1_mustBeIn 2 l st P = sw_ex cf b_X1_mustBeIn [sw_cs m_X1_must 1, sw_ret] l st P := rfl
theorem M_X1_must (d : Nat) (as : List Value) (P : sw_P) (h : sw_wd 1 as = true) : sw_Z (d + 1) m_X1_must as P = sw_at (sw_Z d) b_X1_must 0 (sw_en 1 as) [] P := if_pos h
theorem at_X1_must_0 : sw_at cf b_X1_must 0 l st P = sw_ex cf b_X1_must [sw_ld 0 0, sw_iz 1 1 [false], sw_thx 0] l st P := rfl
theorem at_X1_must_1 : sw_at cf b_X1_must 1 l st P = sw_ex cf b_X1_must [sw_ret] l st P := rfl
theorem M_X1_renew (d : Nat) (as : List Value) (P : sw_P) (h : sw_wd 1 as = true) : sw_Z (d + 1) m_X1_renew as P = sw_at (sw_Z d) b_X1_renew 0 (sw_en 1 as) [] P := if_pos h
theorem at_X1_renew_0 : sw_at cf b_X1_renew 0 l st P = sw_ex cf b_X1_renew [sw_ld 2 0, sw_nw 3 [.null, .null, .null, .null, .null, .int 0], sw_dup, sw_ld 2 0, sw_gf 0 0, sw_ld 2 0, sw_gf 0 1, sw_push (.int 0), sw_ci m_X4_init 3, sw_pf 0 2 2, sw_ret] l st P := rfl
theorem M_X1_latency (d : Nat) (as : List Value) (P : sw_P) (h : sw_wd 4 as = true) : sw_Z (d + 1) m_X1_latency as P = sw_at (sw_Z d) b_X1_latency 0 (sw_en 4 as) [] P := if_pos h
theorem at_X1_latency_0 : sw_at cf b_X1_latency 0 l st P = sw_ex cf b_X1_latency [sw_ld 0 1, sw_push (.int 8), sw_cs m_X1_checkPlace 2, sw_ld 0 2, sw_push (.int 1), sw_push (.int 9), sw_cs m_X1_mustBeIn 3, sw_ld 2 0, sw_gf 0 1, sw_gf 2 5, sw_ld 0 1, sw_ald 64, sw_sti 3, sw_ld 2 0, sw_ld 2 0, sw_gf 0 1, sw_ld 0 1, sw_ld 0 2, sw_cv 2 m_X3_with_2 2, sw_pf 0 1 2, sw_ld 2 0, sw_cv 0 m_X1_renew 0, sw_ld 0 3, sw_rv 0] l st P := rfl
theorem M_X1_checkPlace (d : Nat) (as : List Value) (P : sw_P) (h : sw_wd 2 as = true) : sw_Z (d + 1) m_X1_checkPlace as P = sw_at (sw_Z d) b_X1_checkPlace 0 (sw_en 2 as) [] P := if_pos h
theorem at_X1_checkPlace_0 : sw_at cf b_X1_checkPlace 0 l st P = sw_ex cf b_X1_checkPlace [sw_ld 0 0, sw_iz 2 1 [false, false], sw_ld 0 0, sw_ld 0 1, sw_ic 2 2 [false, false], sw_goto 1 [false, false]] l st P := rfl
theorem at_X1_checkPlace_1 : sw_at cf b_X1_checkPlace 1 l st P = sw_ex cf b_X1_checkPlace [sw_thx 2] l st P := rfl
theorem at_X1_checkPlace_2 : sw_at cf b_X1_checkPlace 2 l st P = sw_ex cf b_X1_checkPlace [sw_ret] l st P := rfl
theorem M_X1_node (d : Nat) (as : List Value) (P : sw_P) (h : sw_wd 5 as = true) : sw_Z (d + 1) m_X1_node as P = sw_at (sw_Z d) b_X1_node 0 (sw_en 5 as) [] P := if_pos h
theorem at_X1_node_0 : sw_at cf b_X1_node 0 l st P = sw_ex cf b_X1_node [sw_ld 0 1, sw_push (.int 0), sw_push (.int 5), sw_cs m_X1_mustBeIn 3, sw_nw 15 [.null, .int 0, .int 0, .int 0], sw_dup, sw_ld 0 1, sw_cs m_X1_kindOf 1, sw_ld 0 2, sw_ld 0 3, sw_ci m_X16_init 3, sw_sta 4, sw_ld 2 4, sw_cv 15 m_X16_isOfTwo 0, sw_iz 0 3 [true, true, true, true, true], sw_ld 2 0, sw_ld 0 2, sw_cv 0 m_X1_isFreeNode 1, sw_iz 0 1 [true, false, true, true, true], sw_ld 2 0, sw_ld 0 3, sw_cv 0 m_X1_isFreeNode 1, sw_iz 0 1 [true, false, true, true, true], sw_ld 0 2, sw_ld 0 3, sw_ic 0 1 [true, false, true, true, true], sw_push (.int 1), sw_goto 2 [true, false, true, true, true]] l st P := rfl
theorem at_X1_node_1 : sw_at cf b_X1_node 1 l st P = sw_ex cf b_X1_node [sw_push (.int 0), sw_goto 2 [true, false, true, true, true]] l st P := rfl
theorem at_X1_node_2 : sw_at cf b_X1_node 2 l st P = sw_ex cf b_X1_node [sw_cs m_X1_must 1, sw_goto 10 [true, false, true, true, true]] l st P := rfl
theorem at_X1_node_3 : sw_at cf b_X1_node 3 l st P = sw_ex cf b_X1_node [sw_ld 0 3, sw_iz 1 4 [true, true, true, true, true], sw_push (.int 1), sw_goto 5 [true, true, true, true, true]] l st P := rfl
theorem at_X1_node_4 : sw_at cf b_X1_node 4 l st P = sw_ex cf b_X1_node [sw_push (.int 0), sw_goto 5 [true, true, true, true, true]] l st P := rfl
theorem at_X1_node_5 : sw_at cf b_X1_node 5 l st P = sw_ex cf b_X1_node [sw_cs m_X1_must 1, sw_ld 0 2, sw_ld 0 1, sw_iz 1 6 [true, true, true, true, true], sw_push (.int (-999)), sw_goto 7 [true, true, true, true, true]] l st P := rfl
theorem at_X1_node_6 : sw_at cf b_X1_node 6 l st P = sw_ex cf b_X1_node [sw_push (.int 0), sw_goto 7 [true, true, true, true, true]] l st P := rfl
theorem at_X1_node_7 : sw_at cf b_X1_node 7 l st P = sw_ex cf b_X1_node [sw_ld 0 1, sw_iz 1 8 [true, false, true, true, true], sw_push (.int 999), sw_goto 9 [true, false, true, true, true]] l st P := rfl
theorem at_X1_node_8 : sw_at cf b_X1_node 8 l st P = sw_ex cf b_X1_node [sw_push (.int 7), sw_goto 9 [true, false, true, true, true]] l st P := rfl
theorem at_X1_node_9 : sw_at cf b_X1_node 9 l st P = sw_ex cf b_X1_node [sw_cs m_X1_mustBeIn 3, sw_goto 10 [true, false, true, true, true]] l st P := rfl
theorem at_X1_node_10 : sw_at cf b_X1_node 10 l st P = sw_ex cf b_X1_node [sw_ld 2 0, sw_gf 0 0, sw_gf 1 0, sw_cv 24 m_J2_size 0, sw_push (.int 80), sw_ic 3 11 [true, false, true, true, true], sw_push (.int 1), sw_goto 12 [true, false, true, true, true]] l st P := rfl
theorem at_X1_node_11 : sw_at cf b_X1_node 11 l st P = sw_ex cf b_X1_node [sw_push (.int 0), sw_goto 12 [true, false, true, true, true]] l st P := rfl
theorem at_X1_node_12 : sw_at cf b_X1_node 12 l st P = sw_ex cf b_X1_node [sw_cs m_X1_checkState 1, sw_ld 2 4, sw_cv 15 m_X16_isOfTwo 0, sw_iz 0 13 [true, false, false, false, true], sw_ld 2 0, sw_gf 0 0, sw_ld 0 2, sw_cv 1 m_X2_at 1, sw_push (.int 1), sw_pf 15 3 1, sw_ld 2 0, sw_gf 0 0, sw_ld 0 3, sw_cv 1 m_X2_at 1, sw_push (.int 1), sw_pf 15 3 1, sw_goto 13 [true, false, false, false, true]] l st P := rfl
theorem at_X1_node_13 : sw_at cf b_X1_node 13 l st P = sw_ex cf b_X1_node [sw_ld 2 0, sw_gf 0 0, sw_gf 1 0, sw_ld 2 4, sw_cv 24 m_J2_add 1, sw_pop, sw_ld 2 0, sw_cv 0 m_X1_renew 0, sw_ld 2 0, sw_gf 0 0, sw_gf 1 0, sw_cv 24 m_J2_size 0, sw_push (.int 1), sw_ii (fun x y => x - y), sw_rv 0] l st P := rfl
theorem M_X1_kindOf (d : Nat) (as : List Value) (P : sw_P) (h : sw_wd 1 as = true) : sw_Z (d + 1) m_X1_kindOf as P = sw_at (sw_Z d) b_X1_kindOf 0 (sw_en 1 as) [] P := if_pos h
theorem at_X1_kindOf_0 : sw_at cf b_X1_kindOf 0 l st P = sw_ex cf b_X1_kindOf [sw_ld 0 0, sw_sw [(0, 1, [false]), (1, 2, [false]), (2, 3, [false]), (3, 4, [false]), (4, 5, [false])] (6, [false])] l st P := rfl
theorem at_X1_kindOf_1 : sw_at cf b_X1_kindOf 1 l st P = sw_ex cf b_X1_kindOf [sw_gs 0, sw_rv 2] l st P := rfl
theorem at_X1_kindOf_2 : sw_at cf b_X1_kindOf 2 l st P = sw_ex cf b_X1_kindOf [sw_gs 1, sw_rv 2] l st P := rfl
theorem at_X1_kindOf_3 : sw_at cf b_X1_kindOf 3 l st P = sw_ex cf b_X1_kindOf [sw_gs 2, sw_rv 2] l st P := rfl
theorem at_X1_kindOf_4 : sw_at cf b_X1_kindOf 4 l st P = sw_ex cf b_X1_kindOf [sw_gs 3, sw_rv 2] l st P := rfl
theorem at_X1_kindOf_5 : sw_at cf b_X1_kindOf 5 l st P = sw_ex cf b_X1_kindOf [sw_gs 4, sw_rv 2] l st P := rfl
theorem at_X1_kindOf_6 : sw_at cf b_X1_kindOf 6 l st P = sw_ex cf b_X1_kindOf [sw_gs 5, sw_rv 2] l st P := rfl
theorem M_X1_isFreeNode (d : Nat) (as : List Value) (P : sw_P) (h : sw_wd 2 as = true) : sw_Z (d + 1) m_X1_isFreeNode as P = sw_at (sw_Z d) b_X1_isFreeNode 0 (sw_en 2 as) [] P := if_pos h
theorem at_X1_isFreeNode_0 : sw_at cf b_X1_isFreeNode 0 l st P = sw_ex cf b_X1_isFreeNode [sw_ld 0 1, sw_iz 2 1 [false, false], sw_ld 0 1, sw_ld 2 0, sw_gf 0 0, sw_gf 1 0, sw_cv 24 m_J2_size 0, sw_ic 3 1 [false, false], sw_ld 2 0, sw_gf 0 0, sw_ld 0 1, sw_cv 1 m_X2_at 1, sw_gf 15 3, sw_iz 1 1 [false, false], sw_push (.int 1), sw_goto 2 [false, false]] l st P := rfl
theorem at_X1_isFreeNode_1 : sw_at cf b_X1_isFreeNode 1 l st P = sw_ex cf b_X1_isFreeNode [sw_push (.int 0), sw_goto 2 [false, false]] l st P := rfl
theorem at_X1_isFreeNode_2 : sw_at cf b_X1_isFreeNode 2 l st P = sw_ex cf b_X1_isFreeNode [sw_rv 1] l st P := rfl
theorem M_X1_checkState (d : Nat) (as : List Value) (P : sw_P) (h : sw_wd 1 as = true) : sw_Z (d + 1) m_X1_checkState as P = sw_at (sw_Z d) b_X1_checkState 0 (sw_en 1 as) [] P := if_pos h
theorem at_X1_checkState_0 : sw_at cf b_X1_checkState 0 l st P = sw_ex cf b_X1_checkState [sw_ld 0 0, sw_iz 1 1 [false], sw_thx 1] l st P := rfl
theorem at_X1_checkState_1 : sw_at cf b_X1_checkState 1 l st P = sw_ex cf b_X1_checkState [sw_ret] l st P := rfl
theorem M_X1_statement (d : Nat) (as : List Value) (P : sw_P) (h : sw_wd 5 as = true) : sw_Z (d + 1) m_X1_statement as P = sw_at (sw_Z d) b_X1_statement 0 (sw_en 5 as) [] P := if_pos h
theorem at_X1_statement_0 : sw_at cf b_X1_statement 0 l st P = sw_ex cf b_X1_statement [sw_ld 0 1, sw_cs m_X1_checkBlock 1, sw_ld 0 2, sw_push (.int 8), sw_cs m_X1_checkPlace 2, sw_ld 0 3, sw_ld 2 0, sw_gf 0 0, sw_gf 1 0, sw_cv 24 m_J2_size 0, sw_cs m_X1_checkPlace 2, sw_ld 2 0, sw_gf 0 0, sw_ld 0 3, sw_cv 1 m_X2_at 1, sw_gf 15 3, sw_iz 1 1 [true, true, true, true, false], sw_push (.int 1), sw_goto 2 [true, true, true, true, false]] l st P := rfl
theorem at_X1_statement_1 : sw_at cf b_X1_statement 1 l st P = sw_ex cf b_X1_statement [sw_push (.int 0), sw_goto 2 [true, true, true, true, false]] l st P := rfl
theorem at_X1_statement_2 : sw_at cf b_X1_statement 2 l st P = sw_ex cf b_X1_statement [sw_cs m_X1_must 1, sw_ld 2 0, sw_gf 0 0, sw_cv 1 m_X2_statements 0, sw_push (.int 24), sw_ic 3 3 [true, true, true, true, false], sw_push (.int 1), sw_goto 4 [true, true, true, true, false]] l st P := rfl
theorem at_X1_statement_3 : sw_at cf b_X1_statement 3 l st P = sw_ex cf b_X1_statement [sw_push (.int 0), sw_goto 4 [true, true, true, true, false]] l st P := rfl
theorem at_X1_statement_4 : sw_at cf b_X1_statement 4 l st P = sw_ex cf b_X1_statement [sw_cs m_X1_checkState 1, sw_ld 2 0, sw_gf 0 0, sw_ld 0 3, sw_cv 1 m_X2_at 1, sw_push (.int 1), sw_pf 15 3 1, sw_ld 2 0, sw_gf 0 0, sw_gf 1 1, sw_ld 0 1, sw_cv 24 m_J2_get 1, sw_ct [24], sw_sta 4, sw_ld 2 4, sw_nw 17 [.int 0, .int 0], sw_dup, sw_ld 0 2, sw_ld 0 3, sw_ci m_X18_init 2, sw_cv 24 m_J2_add 1, sw_pop, sw_ld 2 0, sw_cv 0 m_X1_renew 0, sw_ld 2 4, sw_cv 24 m_J2_size 0, sw_rv 0] l st P := rfl
theorem M_X1_checkBlock (d : Nat) (as : List Value) (P : sw_P) (h : sw_wd 1 as = true) : sw_Z (d + 1) m_X1_checkBlock as P = sw_at (sw_Z d) b_X1_checkBlock 0 (sw_en 1 as) [] P := if_pos h
theorem at_X1_checkBlock_0 : sw_at cf b_X1_checkBlock 0 l st P = sw_ex cf b_X1_checkBlock [sw_ld 0 0, sw_push (.int 4), sw_cs m_X1_checkPlace 2, sw_ret] l st P := rfl
theorem M_X1_take (d : Nat) (as : List Value) (P : sw_P) (h : sw_wd 4 as = true) : sw_Z (d + 1) m_X1_take as P = sw_at (sw_Z d) b_X1_take 0 (sw_en 4 as) [] P := if_pos h
theorem at_X1_take_0 : sw_at cf b_X1_take 0 l st P = sw_ex cf b_X1_take [sw_ld 0 1, sw_cs m_X1_checkBlock 1, sw_ld 2 0, sw_gf 0 0, sw_gf 1 1, sw_ld 0 1, sw_cv 24 m_J2_get 1, sw_ct [24], sw_sta 2, sw_ld 2 2, sw_cv 24 m_J2_isEmpty 0, sw_iz 1 1 [true, false, true, false], sw_push (.int 1), sw_goto 2 [true, false, true, false]] l st P := rfl
theorem at_X1_take_1 : sw_at cf b_X1_take 1 l st P = sw_ex cf b_X1_take [sw_push (.int 0), sw_goto 2 [true, false, true, false]] l st P := rfl
theorem at_X1_take_2 : sw_at cf b_X1_take 2 l st P = sw_ex cf b_X1_take [sw_cs m_X1_checkState 1, sw_ld 2 2, sw_ld 2 2, sw_cv 24 m_J2_size 0, sw_push (.int 1), sw_ii (fun x y => x - y), sw_cv 24 m_J2_get 1, sw_ct [17], sw_gf 17 1, sw_sti 3, sw_ld 2 2, sw_ld 2 2, sw_cv 24 m_J2_size 0, sw_push (.int 1), sw_ii (fun x y => x - y), sw_cv 24 m_J2_remove 1, sw_pop, sw_ld 2 0, sw_gf 0 0, sw_ld 0 3, sw_cv 1 m_X2_at 1, sw_push (.int 0), sw_pf 15 3 1, sw_ld 2 0, sw_cv 0 m_X1_renew 0, sw_ld 0 3, sw_rv 0] l st P := rfl
theorem M_X1_times (d : Nat) (as : List Value) (P : sw_P) (h : sw_wd 4 as = true) : sw_Z (d + 1) m_X1_times as P = sw_at (sw_Z d) b_X1_times 0 (sw_en 4 as) [] P := if_pos h
theorem at_X1_times_0 : sw_at cf b_X1_times 0 l st P = sw_ex cf b_X1_times [sw_ld 0 1, sw_cs m_X1_checkBlock 1, sw_ld 0 2, sw_push (.int 1), sw_push (.int 9), sw_cs m_X1_mustBeIn 3, sw_ld 2 0, sw_gf 0 0, sw_gf 1 2, sw_ld 0 1, sw_ald 64, sw_sti 3, sw_ld 2 0, sw_gf 0 0, sw_gf 1 2, sw_ld 0 1, sw_ld 0 2, sw_ast 64, sw_ld 2 0, sw_cv 0 m_X1_renew 0, sw_ld 0 3, sw_rv 0] l st P := rfl
theorem M_X1_out (d : Nat) (as : List Value) (P : sw_P) (h : sw_wd 3 as = true) : sw_Z (d + 1) m_X1_out as P = sw_at (sw_Z d) b_X1_out 0 (sw_en 3 as) [] P := if_pos h
theorem at_X1_out_0 : sw_at cf b_X1_out 0 l st P = sw_ex cf b_X1_out [sw_ld 0 1, sw_push (.int 0), sw_push (.int 255), sw_cs m_X1_mustBeIn 3, sw_ld 2 0, sw_gf 0 0, sw_gf 1 3, sw_sti 2, sw_ld 2 0, sw_gf 0 0, sw_ld 0 1, sw_pf 1 3 0, sw_ld 2 0, sw_cv 0 m_X1_renew 0, sw_ld 0 2, sw_rv 0] l st P := rfl
theorem M_X1_meant (d : Nat) (as : List Value) (P : sw_P) (h : sw_wd 2 as = true) : sw_Z (d + 1) m_X1_meant as P = sw_at (sw_Z d) b_X1_meant 0 (sw_en 2 as) [] P := if_pos h
theorem at_X1_meant_0 : sw_at cf b_X1_meant 0 l st P = sw_ex cf b_X1_meant [sw_ld 0 1, sw_push (.int 8), sw_cs m_X1_checkPlace 2, sw_ld 2 0, sw_gf 0 0, sw_cv 1 m_X2_meant 0, sw_ld 0 1, sw_ald 64, sw_rv 0] l st P := rfl
theorem M_X1_chosen (d : Nat) (as : List Value) (P : sw_P) (h : sw_wd 3 as = true) : sw_Z (d + 1) m_X1_chosen as P = sw_at (sw_Z d) b_X1_chosen 0 (sw_en 3 as) [] P := if_pos h
theorem at_X1_chosen_0 : sw_at cf b_X1_chosen 0 l st P = sw_ex cf b_X1_chosen [sw_ld 0 1, sw_ld 2 0, sw_gf 0 2, sw_gf 3 0, sw_cv 24 m_J2_size 0, sw_cs m_X1_checkPlace 2, sw_ld 0 2, sw_push (.int 0), sw_push (.int 7), sw_cs m_X1_mustBeIn 3, sw_ld 2 0, sw_ld 0 1, sw_ld 0 2, sw_cv 0 m_X1_chosenNow 2, sw_rv 0] l st P := rfl
theorem M_X1_ofValue (d : Nat) (as : List Value) (P : sw_P) (h : sw_wd 3 as = true) : sw_Z (d + 1) m_X1_ofValue as P = sw_at (sw_Z d) b_X1_ofValue 0 (sw_en 3 as) [] P := if_pos h
theorem at_X1_ofValue_0 : sw_at cf b_X1_ofValue 0 l st P = sw_ex cf b_X1_ofValue [sw_ld 2 0, sw_gf 0 2, sw_gf 3 1, sw_ld 0 1, sw_cv 7 m_X8_placeOf 1, sw_ld 2 0, sw_gf 0 2, sw_gf 3 1, sw_gf 7 3, sw_cv 24 m_J2_size 0, sw_cs m_X1_checkPlace 2, sw_ld 0 2, sw_push (.int 0), sw_push (.int 7), sw_cs m_X1_mustBeIn 3, sw_ld 2 0, sw_gf 0 2, sw_gf 3 1, sw_ld 0 1, sw_cv 7 m_X8_of 1, sw_ld 0 2, sw_cs m_X1_lifeNow 2, sw_rv 0] l st P := rfl
theorem M_X1_mapAt (d : Nat) (as : List Value) (P : sw_P) (h : sw_wd 4 as = true) : sw_Z (d + 1) m_X1_mapAt as P = sw_at (sw_Z d) b_X1_mapAt 0 (sw_en 4 as) [] P := if_pos h
theorem at_X1_mapAt_0 : sw_at cf b_X1_mapAt 0 l st P = sw_ex cf b_X1_mapAt [sw_ld 0 1, sw_iz 3 1 [true, true, true, false], sw_push (.int (-1)), sw_goto 2 [true, false, true, false]] l st P := rfl
theorem at_X1_mapAt_1 : sw_at cf b_X1_mapAt 1 l st P = sw_ex cf b_X1_mapAt [sw_ld 2 0, sw_ld 0 1, sw_cv 0 m_X1_pointOf 1, sw_goto 2 [true, false, true, false]] l st P := rfl
theorem at_X1_mapAt_2 : sw_at cf b_X1_mapAt 2 l st P = sw_ex cf b_X1_mapAt [sw_sti 3, sw_ld 0 3, sw_push (.int (-1)), sw_ic 1 3 [true, false, true, true], sw_thx 2] l st P := rfl
theorem at_X1_mapAt_3 : sw_at cf b_X1_mapAt 3 l st P = sw_ex cf b_X1_mapAt [sw_ld 0 2, sw_push (.int 0), sw_push (.int 3), sw_cs m_X1_mustBeIn 3, sw_ld 2 0, sw_ld 0 3, sw_ld 0 2, sw_cv 0 m_X1_mapNow 2, sw_rv 0] l st P := rfl
theorem M_X1_pointOf (d : Nat) (as : List Value) (P : sw_P) (h : sw_wd 4 as = true) : sw_Z (d + 1) m_X1_pointOf as P = sw_at (sw_Z d) b_X1_pointOf 0 (sw_en 4 as) [] P := if_pos h
theorem at_X1_pointOf_0 : sw_at cf b_X1_pointOf 0 l st P = sw_ex cf b_X1_pointOf [sw_push (.int 0), sw_sti 2, sw_push (.int 0), sw_sti 3, sw_goto 1 [true, true, true, true]] l st P := rfl
theorem at_X1_pointOf_1 : sw_at cf b_X1_pointOf 1 l st P = sw_ex cf b_X1_pointOf [sw_ld 0 3, sw_ld 2 0, sw_gf 0 2, sw_gf 3 0, sw_cv 24 m_J2_size 0, sw_ic 3 4 [false, false, false, false], sw_ld 2 0, sw_gf 0 2, sw_gf 3 0, sw_ld 0 3, sw_cv 24 m_J2_get 1, sw_ct [6], sw_push (.int 9), sw_cv 6 m_X7_is 1, sw_iz 0 3 [true, true, true, true], sw_ld 0 2, sw_ld 0 1, sw_ic 1 2 [true, true, true, true], sw_ld 0 3, sw_rv 0] l st P := rfl
theorem at_X1_pointOf_2 : sw_at cf b_X1_pointOf 2 l st P = sw_ex cf b_X1_pointOf [sw_inc 2 1, sw_goto 3 [true, true, true, true]] l st P := rfl
theorem at_X1_pointOf_3 : sw_at cf b_X1_pointOf 3 l st P = sw_ex cf b_X1_pointOf [sw_inc 3 1, sw_goto 1 [true, true, true, true]] l st P := rfl
theorem at_X1_pointOf_4 : sw_at cf b_X1_pointOf 4 l st P = sw_ex cf b_X1_pointOf [sw_push (.int (-1)), sw_rv 0] l st P := rfl
theorem M_X1_cost (d : Nat) (as : List Value) (P : sw_P) (h : sw_wd 2 as = true) : sw_Z (d + 1) m_X1_cost as P = sw_at (sw_Z d) b_X1_cost 0 (sw_en 2 as) [] P := if_pos h
theorem at_X1_cost_0 : sw_at cf b_X1_cost 0 l st P = sw_ex cf b_X1_cost [sw_ld 0 1, sw_ld 2 0, sw_gf 0 0, sw_gf 1 0, sw_cv 24 m_J2_size 0, sw_cs m_X1_checkPlace 2, sw_ld 2 0, sw_gf 0 2, sw_gf 3 4, sw_ld 0 1, sw_ald 64, sw_rv 0] l st P := rfl
theorem M_X1_code (d : Nat) (as : List Value) (P : sw_P) (h : sw_wd 3 as = true) : sw_Z (d + 1) m_X1_code as P = sw_at (sw_Z d) b_X1_code 0 (sw_en 3 as) [] P := if_pos h
theorem at_X1_code_0 : sw_at cf b_X1_code 0 l st P = sw_ex cf b_X1_code [sw_ld 0 1, sw_ld 2 0, sw_gf 0 2, sw_gf 3 2, sw_cv 24 m_J2_size 0, sw_cs m_X1_checkPlace 2, sw_ld 0 2, sw_push (.int 0), sw_push (.int 5), sw_cs m_X1_mustBeIn 3, sw_ld 2 0, sw_ld 0 1, sw_ld 0 2, sw_cv 0 m_X1_codeNow 2, sw_rv 0] l st P := rfl
theorem M_X1_begins (d : Nat) (as : List Value) (P : sw_P) (h : sw_wd 2 as = true) : sw_Z (d + 1) m_X1_begins as P = sw_at (sw_Z d) b_X1_begins 0 (sw_en 2 as) [] P := if_pos h
theorem at_X1_begins_0 : sw_at cf b_X1_begins 0 l st P = sw_ex cf b_X1_begins [sw_ld 0 1, sw_ld 2 0, sw_gf 0 2, sw_gf 3 2, sw_cv 24 m_J2_size 0, sw_cs m_X1_checkPlace 2, sw_ld 2 0, sw_gf 0 2, sw_gf 3 2, sw_ld 0 1, sw_cv 24 m_J2_get 1, sw_ct [10], sw_gf 10 6, sw_rv 0] l st P := rfl
theorem M_X1_answer (d : Nat) (as : List Value) (P : sw_P) (h : sw_wd 2 as = true) : sw_Z (d + 1) m_X1_answer as P = sw_at (sw_Z d) b_X1_answer 0 (sw_en 2 as) [] P := if_pos h
theorem at_X1_answer_0 : sw_at cf b_X1_answer 0 l st P = sw_ex cf b_X1_answer [sw_ld 0 1, sw_push (.int 8), sw_cs m_X1_checkPlace 2, sw_ld 2 0, sw_gf 0 0, sw_gf 1 3, sw_ld 0 1, sw_cs m_X1_has 2, sw_iz 0 1 [true, true], sw_push (.int 0), sw_goto 2 [true, true]] l st P := rfl
theorem at_X1_answer_1 : sw_at cf b_X1_answer 1 l st P = sw_ex cf b_X1_answer [sw_push (.int (-1)), sw_goto 2 [true, true]] l st P := rfl
theorem at_X1_answer_2 : sw_at cf b_X1_answer 2 l st P = sw_ex cf b_X1_answer [sw_push (.int 1), sw_cs m_X1_checkPlace 2, sw_ld 2 0, sw_gf 0 2, sw_ld 0 1, sw_cv 3 m_X4_answer 1, sw_rv 0] l st P := rfl
theorem M_X1_many (d : Nat) (as : List Value) (P : sw_P) (h : sw_wd 2 as = true) : sw_Z (d + 1) m_X1_many as P = sw_at (sw_Z d) b_X1_many 0 (sw_en 2 as) [] P := if_pos h
theorem at_X1_many_0 : sw_at cf b_X1_many 0 l st P = sw_ex cf b_X1_many [sw_ld 0 1, sw_push (.int 0), sw_push (.int 15), sw_cs m_X1_mustBeIn 3, sw_ld 2 0, sw_ld 0 1, sw_cv 0 m_X1_manyNow 1, sw_rv 0] l st P := rfl
theorem M_X1_with (d : Nat) (as : List Value) (P : sw_P) (h : sw_wd 5 as = true) : sw_Z (d + 1) m_X1_with as P = sw_at (sw_Z d) b_X1_with 0 (sw_en 5 as) [] P := if_pos h
theorem at_X1_with_0 : sw_at cf b_X1_with 0 l st P = sw_ex cf b_X1_with [sw_ld 0 1, sw_ld 0 2, sw_cs m_X1_mustBeMachine 2, sw_ld 0 4, sw_push (.int 3), sw_push (.int 15), sw_cs m_X1_mustBeIn 3, sw_ld 2 0, sw_ld 2 0, sw_gf 0 1, sw_ld 0 1, sw_ld 0 2, sw_ld 0 3, sw_cv 2 m_X3_with 3, sw_cv 0 m_X1_buildWith 1, sw_ld 0 4, sw_cv 3 m_X4_many 1, sw_rv 0] l st P := rfl
theorem M_X1_cyclesWith (d : Nat) (as : List Value) (P : sw_P) (h : sw_wd 3 as = true) : sw_Z (d + 1) m_X1_cyclesWith as P = sw_at (sw_Z d) b_X1_cyclesWith 0 (sw_en 3 as) [] P := if_pos h
theorem at_X1_cyclesWith_0 : sw_at cf b_X1_cyclesWith 0 l st P = sw_ex cf b_X1_cyclesWith [sw_ld 0 1, sw_push (.int 8), sw_cs m_X1_checkPlace 2, sw_ld 0 2, sw_push (.int 1), sw_push (.int 9), sw_cs m_X1_mustBeIn 3, sw_ld 2 0, sw_ld 2 0, sw_gf 0 1, sw_ld 0 1, sw_ld 0 2, sw_cv 2 m_X3_with_2 2, sw_cv 0 m_X1_buildWith 1, sw_gf 3 3, sw_gf 11 7, sw_rv 0] l st P := rfl
theorem M_X10_init (d : Nat) (as : List Value) (P : sw_P) (h : sw_wd 3 as = true) : sw_Z (d + 1) m_X10_init as P = sw_at (sw_Z d) b_X10_init 0 (sw_en 3 as) [] P := if_pos h
theorem at_X10_init_0 : sw_at cf b_X10_init 0 l st P = sw_ex cf b_X10_init [sw_ld 2 0, sw_oin, sw_ld 2 0, sw_nw 24 [.int 0, .null, .int 0], sw_dup, sw_ci m_J2_init 0, sw_pf 9 2 2, sw_ld 2 0, sw_ld 2 1, sw_pf 9 0 2, sw_ld 2 0, sw_ld 2 2, sw_pf 9 1 2, sw_ret] l st P := rfl
theorem M_X10_all (d : Nat) (as : List Value) (P : sw_P) (h : sw_wd 4 as = true) : sw_Z (d + 1) m_X10_all as P = sw_at (sw_Z d) b_X10_all 0 (sw_en 4 as) [] P := if_pos h
theorem at_X10_all_0 : sw_at cf b_X10_all 0 l st P = sw_ex cf b_X10_all [sw_ld 2 0, sw_push (.int 0), sw_pf 9 3 0, sw_goto 1 [true, true, false, false]] l st P := rfl
theorem at_X10_all_1 : sw_at cf b_X10_all 1 l st P = sw_ex cf b_X10_all [sw_ld 2 0, sw_gf 9 3, sw_ld 2 1, sw_cv 24 m_J2_size 0, sw_ic 3 4 [true, false, false, false], sw_ld 2 1, sw_ld 2 0, sw_gf 9 3, sw_cv 24 m_J2_get 1, sw_ct [6], sw_sta 2, sw_ld 2 0, sw_gf 9 0, sw_ld 2 2, sw_gf 6 1, sw_cv 7 m_X8_of 1, sw_sta 3, sw_ld 2 2, sw_push (.int 9), sw_cv 6 m_X7_is 1, sw_iz 0 2 [true, true, true, true], sw_ld 2 0, sw_ld 2 2, sw_ld 2 3, sw_cv 9 m_X10_writeCall 2, sw_goto 3 [true, true, false, false]] l st P := rfl
theorem at_X10_all_2 : sw_at cf b_X10_all 2 l st P = sw_ex cf b_X10_all [sw_ld 2 3, sw_cv 8 m_X9_isRemade 0, sw_iz 1 3 [true, true, false, false], sw_ld 2 0, sw_ld 2 2, sw_ld 2 3, sw_cv 9 m_X10_writePlain 2, sw_goto 3 [true, true, false, false]] l st P := rfl
theorem at_X10_all_3 : sw_at cf b_X10_all 3 l st P = sw_ex cf b_X10_all [sw_ld 2 0, sw_dup, sw_gf 9 3, sw_push (.int 1), sw_ii (fun x y => x + y), sw_pf 9 3 0, sw_goto 1 [true, true, false, false]] l st P := rfl
theorem at_X10_all_4 : sw_at cf b_X10_all 4 l st P = sw_ex cf b_X10_all [sw_ld 2 0, sw_gf 9 2, sw_rv 2] l st P := rfl
theorem M_X10_writeCall (d : Nat) (as : List Value) (P : sw_P) (h : sw_wd 5 as = true) : sw_Z (d + 1) m_X10_writeCall as P = sw_at (sw_Z d) b_X10_writeCall 0 (sw_en 5 as) [] P := if_pos h
theorem at_X10_writeCall_0 : sw_at cf b_X10_writeCall 0 l st P = sw_ex cf b_X10_writeCall [sw_ld 2 0, sw_gf 9 0, sw_ld 2 1, sw_gf 6 2, sw_push (.int 0), sw_ald 64, sw_cv 7 m_X8_of 1, sw_gf 8 7, sw_sti 3, sw_ld 2 0, sw_gf 9 0, sw_ld 2 1, sw_gf 6 2, sw_push (.int 1), sw_ald 64, sw_cv 7 m_X8_of 1, sw_gf 8 7, sw_sti 4, sw_ld 0 3, sw_push (.int 1), sw_ic 1 1 [true, true, true, false, true], sw_ld 0 4, sw_iz 1 1 [true, true, true, false, true], sw_ld 2 0, sw_ld 2 0, sw_gf 9 1, sw_cv 2 m_X3_scratch 0, sw_push (.int 0), sw_cv 9 m_X10_move 2, sw_ld 2 0, sw_push (.int 0), sw_push (.int 1), sw_cv 9 m_X10_move 2, sw_ld 2 0, sw_push (.int 1), sw_ld 2 0, sw_gf 9 1, sw_cv 2 m_X3_scratch 0, sw_cv 9 m_X10_move 2, sw_goto 3 [true, false, true, false, false]] l st P := rfl
theorem at_X10_writeCall_1 : sw_at cf b_X10_writeCall 1 l st P = sw_ex cf b_X10_writeCall [sw_ld 0 4, sw_iz 1 2 [true, true, true, false, false], sw_ld 2 0, sw_ld 2 1, sw_gf 6 2, sw_push (.int 1), sw_ald 64, sw_push (.int 1), sw_cv 9 m_X10_bring 2, sw_ld 2 0, sw_ld 2 1, sw_gf 6 2, sw_push (.int 0), sw_ald 64, sw_push (.int 0), sw_cv 9 m_X10_bring 2, sw_goto 3 [true, false, true, false, false]] l st P := rfl
theorem at_X10_writeCall_2 : sw_at cf b_X10_writeCall 2 l st P = sw_ex cf b_X10_writeCall [sw_ld 2 0, sw_ld 2 1, sw_gf 6 2, sw_push (.int 0), sw_ald 64, sw_push (.int 0), sw_cv 9 m_X10_bring 2, sw_ld 2 0, sw_ld 2 1, sw_gf 6 2, sw_push (.int 1), sw_ald 64, sw_push (.int 1), sw_cv 9 m_X10_bring 2, sw_goto 3 [true, false, true, false, false]] l st P := rfl
theorem at_X10_writeCall_3 : sw_at cf b_X10_writeCall 3 l st P = sw_ex cf b_X10_writeCall [sw_ld 2 0, sw_push (.int 9), sw_push (.int 0), sw_push (.int 0), sw_cv 9 m_X10_put 3, sw_ld 2 2, sw_gf 8 8, sw_iz 0 4 [true, false, true, false, false], sw_ld 2 0, sw_push (.int 8), sw_push (.int 0), sw_ld 2 2, sw_gf 8 9, sw_cv 9 m_X10_put 3, sw_goto 5 [false, false, false, false, false]] l st P := rfl
theorem at_X10_writeCall_4 : sw_at cf b_X10_writeCall 4 l st P = sw_ex cf b_X10_writeCall [sw_ld 2 0, sw_ld 2 2, sw_gf 8 7, sw_push (.int 0), sw_cv 9 m_X10_move 2, sw_goto 5 [false, false, false, false, false]] l st P := rfl
theorem at_X10_writeCall_5 : sw_at cf b_X10_writeCall 5 l st P = sw_ex cf b_X10_writeCall [sw_ret] l st P := rfl
theorem M_X10_move (d : Nat) (as : List Value) (P : sw_P) (h : sw_wd 3 as = true) : sw_Z (d + 1) m_X10_move as P = sw_at (sw_Z d) b_X10_move 0 (sw_en 3 as) [] P := if_pos h
theorem at_X10_move_0 : sw_at cf b_X10_move 0 l st P = sw_ex cf b_X10_move [sw_ld 0 1, sw_ld 0 2, sw_ic 0 1 [false, false, false], sw_ld 2 0, sw_push (.int 1), sw_ld 0 1, sw_ld 0 2, sw_cv 9 m_X10_put 3, sw_goto 1 [false, false, false]] l st P := rfl
theorem at_X10_move_1 : sw_at cf b_X10_move 1 l st P = sw_ex cf b_X10_move [sw_ret] l st P := rfl
theorem M_X10_put (d : Nat) (as : List Value) (P : sw_P) (h : sw_wd 4 as = true) : sw_Z (d + 1) m_X10_put as P = sw_at (sw_Z d) b_X10_put 0 (sw_en 4 as) [] P := if_pos h
theorem at_X10_put_0 : sw_at cf b_X10_put 0 l st P = sw_ex cf b_X10_put [sw_ld 2 0, sw_ld 0 1, sw_ld 0 2, sw_ld 0 3, sw_push (.int 0), sw_push (.int 0), sw_cv 9 m_X10_put_2 5, sw_ret] l st P := rfl
theorem M_X10_put_2 (d : Nat) (as : List Value) (P : sw_P) (h : sw_wd 6 as = true) : sw_Z (d + 1) m_X10_put_2 as P = sw_at (sw_Z d) b_X10_put_2 0 (sw_en 6 as) [] P := if_pos h
theorem at_X10_put_2_0 : sw_at cf b_X10_put_2 0 l st P = sw_ex cf b_X10_put_2 [sw_ld 2 0, sw_gf 9 2, sw_nw 10 [.int 0, .int 0, .int 0, .int 0, .int 0, .int 0, .int 0], sw_dup, sw_ld 0 1, sw_ld 2 0, sw_gf 9 3, sw_ld 0 2, sw_ld 0 3, sw_ld 0 4, sw_ld 0 5, sw_ci m_X11_init 6, sw_cv 24 m_J2_add 1, sw_pop, sw_ret] l st P := rfl
theorem M_X10_bring (d : Nat) (as : List Value) (P : sw_P) (h : sw_wd 4 as = true) : sw_Z (d + 1) m_X10_bring as P = sw_at (sw_Z d) b_X10_bring 0 (sw_en 4 as) [] P := if_pos h
theorem at_X10_bring_0 : sw_at cf b_X10_bring 0 l st P = sw_ex cf b_X10_bring [sw_ld 2 0, sw_gf 9 0, sw_ld 0 1, sw_cv 7 m_X8_of 1, sw_sta 3, sw_ld 2 3, sw_cv 8 m_X9_isRemade 0, sw_iz 0 1 [true, false, true, true], sw_ld 2 0, sw_push (.int 0), sw_ld 0 2, sw_ld 2 3, sw_gf 8 10, sw_gf 6 3, sw_cv 9 m_X10_put 3, sw_goto 3 [false, false, false, false]] l st P := rfl
theorem at_X10_bring_1 : sw_at cf b_X10_bring 1 l st P = sw_ex cf b_X10_bring [sw_ld 2 3, sw_gf 8 8, sw_iz 0 2 [true, false, true, true], sw_ld 2 0, sw_push (.int 7), sw_ld 0 2, sw_ld 2 3, sw_gf 8 9, sw_cv 9 m_X10_put 3, sw_goto 3 [false, false, false, false]] l st P := rfl
theorem at_X10_bring_2 : sw_at cf b_X10_bring 2 l st P = sw_ex cf b_X10_bring [sw_ld 2 0, sw_ld 0 2, sw_ld 2 3, sw_gf 8 7, sw_cv 9 m_X10_move 2, sw_goto 3 [false, false, false, false]] l st P := rfl
theorem at_X10_bring_3 : sw_at cf b_X10_bring 3 l st P = sw_ex cf b_X10_bring [sw_ret] l st P := rfl
theorem M_X10_writePlain (d : Nat) (as : List Value) (P : sw_P) (h : sw_wd 5 as = true) : sw_Z (d + 1) m_X10_writePlain as P = sw_at (sw_Z d) b_X10_writePlain 0 (sw_en 5 as) [] P := if_pos h
theorem at_X10_writePlain_0 : sw_at cf b_X10_writePlain 0 l st P = sw_ex cf b_X10_writePlain [sw_ld 2 0, sw_ld 2 1, sw_cv 9 m_X10_readsOf 1, sw_sta 3, sw_ld 2 2, sw_gf 8 8, sw_iz 0 1 [true, true, true, true, false], sw_ld 2 0, sw_gf 9 1, sw_cv 2 m_X3_scratch 0, sw_goto 2 [true, true, true, true, false]] l st P := rfl
theorem at_X10_writePlain_1 : sw_at cf b_X10_writePlain 1 l st P = sw_ex cf b_X10_writePlain [sw_ld 2 2, sw_gf 8 7, sw_goto 2 [true, true, true, true, false]] l st P := rfl
theorem at_X10_writePlain_2 : sw_at cf b_X10_writePlain 2 l st P = sw_ex cf b_X10_writePlain [sw_sti 4, sw_ld 2 1, sw_push (.int 0), sw_cv 6 m_X7_is 1, sw_iz 0 3 [true, true, true, true, true], sw_ld 2 0, sw_push (.int 0), sw_ld 0 4, sw_ld 2 1, sw_gf 6 3, sw_cv 9 m_X10_put 3, sw_goto 6 [true, false, true, false, true]] l st P := rfl
theorem at_X10_writePlain_3 : sw_at cf b_X10_writePlain 3 l st P = sw_ex cf b_X10_writePlain [sw_ld 2 1, sw_push (.int 1), sw_cv 6 m_X7_is 1, sw_iz 0 4 [true, true, true, true, true], sw_ld 2 0, sw_ld 0 4, sw_ld 2 3, sw_push (.int 0), sw_ald 64, sw_cv 9 m_X10_move 2, sw_goto 6 [true, false, true, false, true]] l st P := rfl
theorem at_X10_writePlain_4 : sw_at cf b_X10_writePlain 4 l st P = sw_ex cf b_X10_writePlain [sw_ld 2 0, sw_gf 9 1, sw_gf 2 4, sw_iz 0 5 [true, true, true, true, true], sw_ld 2 0, sw_ld 2 1, sw_ld 0 4, sw_ld 2 3, sw_cv 9 m_X10_writeTwo 3, sw_goto 6 [true, false, true, false, true]] l st P := rfl
theorem at_X10_writePlain_5 : sw_at cf b_X10_writePlain 5 l st P = sw_ex cf b_X10_writePlain [sw_ld 2 0, sw_ld 2 1, sw_ld 0 4, sw_ld 2 3, sw_cv 9 m_X10_reckon 3, sw_goto 6 [true, false, true, false, true]] l st P := rfl
theorem at_X10_writePlain_6 : sw_at cf b_X10_writePlain 6 l st P = sw_ex cf b_X10_writePlain [sw_ld 2 0, sw_ld 2 2, sw_ld 0 4, sw_cv 9 m_X10_storeFrom 2, sw_ret] l st P := rfl
theorem M_X10_readsOf (d : Nat) (as : List Value) (P : sw_P) (h : sw_wd 5 as = true) : sw_Z (d + 1) m_X10_readsOf as P = sw_at (sw_Z d) b_X10_readsOf 0 (sw_en 5 as) [] P := if_pos h
theorem at_X10_readsOf_0 : sw_at cf b_X10_readsOf 0 l st P = sw_ex cf b_X10_readsOf [sw_ld 2 1, sw_gf 6 2, sw_al, sw_na 64, sw_sta 2, sw_push (.int 0), sw_sti 3, sw_goto 1 [true, true, true, true, false]] l st P := rfl
theorem at_X10_readsOf_1 : sw_at cf b_X10_readsOf 1 l st P = sw_ex cf b_X10_readsOf [sw_ld 0 3, sw_ld 2 2, sw_al, sw_ic 3 5 [false, false, true, false, false], sw_ld 2 0, sw_gf 9 0, sw_ld 2 1, sw_gf 6 2, sw_ld 0 3, sw_ald 64, sw_cv 7 m_X8_of 1, sw_sta 4, sw_ld 2 2, sw_ld 0 3, sw_ld 2 4, sw_gf 8 8, sw_iz 0 2 [true, true, true, true, true], sw_ld 2 0, sw_gf 9 1, sw_cv 2 m_X3_scratch 0, sw_ld 0 3, sw_ii (fun x y => x + y), sw_goto 3 [true, true, true, true, true]] l st P := rfl
theorem at_X10_readsOf_2 : sw_at cf b_X10_readsOf 2 l st P = sw_ex cf b_X10_readsOf [sw_ld 2 4, sw_gf 8 7, sw_goto 3 [true, true, true, true, true]] l st P := rfl
theorem at_X10_readsOf_3 : sw_at cf b_X10_readsOf 3 l st P = sw_ex cf b_X10_readsOf [sw_ast 64, sw_ld 2 4, sw_gf 8 8, sw_iz 0 4 [true, true, true, true, false], sw_ld 2 0, sw_ld 2 4, sw_gf 8 0, sw_ld 2 2, sw_ld 0 3, sw_ald 64, sw_cv 9 m_X10_bring 2, sw_goto 4 [true, true, true, true, false]] l st P := rfl
theorem at_X10_readsOf_4 : sw_at cf b_X10_readsOf 4 l st P = sw_ex cf b_X10_readsOf [sw_inc 3 1, sw_goto 1 [true, true, true, true, false]] l st P := rfl
theorem at_X10_readsOf_5 : sw_at cf b_X10_readsOf 5 l st P = sw_ex cf b_X10_readsOf [sw_ld 2 2, sw_rv 2] l st P := rfl
theorem M_X10_writeTwo (d : Nat) (as : List Value) (P : sw_P) (h : sw_wd 6 as = true) : sw_Z (d + 1) m_X10_writeTwo as P = sw_at (sw_Z d) b_X10_writeTwo 0 (sw_en 6 as) [] P := if_pos h
theorem at_X10_writeTwo_0 : sw_at cf b_X10_writeTwo 0 l st P = sw_ex cf b_X10_writeTwo [sw_push (.int 0), sw_sti 4, sw_push (.int 1), sw_sti 5, sw_goto 1 [true, true, true, true, true, true]] l st P := rfl
theorem at_X10_writeTwo_1 : sw_at cf b_X10_writeTwo 1 l st P = sw_ex cf b_X10_writeTwo [sw_ld 0 5, sw_ld 2 3, sw_al, sw_ic 3 4 [true, true, true, true, true, false], sw_ld 0 4, sw_ld 2 3, sw_ld 0 5, sw_ald 64, sw_ld 0 2, sw_ic 1 2 [true, true, true, true, false, true], sw_push (.int 1), sw_goto 3 [true, true, true, true, false, true]] l st P := rfl
theorem at_X10_writeTwo_2 : sw_at cf b_X10_writeTwo 2 l st P = sw_ex cf b_X10_writeTwo [sw_push (.int 0), sw_goto 3 [true, true, true, true, false, true]] l st P := rfl
theorem at_X10_writeTwo_3 : sw_at cf b_X10_writeTwo 3 l st P = sw_ex cf b_X10_writeTwo [sw_ii (fun x y => x ||| y), sw_sti 4, sw_inc 5 1, sw_goto 1 [true, true, true, true, true, true]] l st P := rfl
theorem at_X10_writeTwo_4 : sw_at cf b_X10_writeTwo 4 l st P = sw_ex cf b_X10_writeTwo [sw_ld 2 3, sw_push (.int 0), sw_ald 64, sw_ld 0 2, sw_ic 0 5 [true, true, true, true, false, false], sw_ld 0 4, sw_iz 1 6 [true, true, true, true, false, false], sw_goto 5 [true, true, true, true, false, false]] l st P := rfl
theorem at_X10_writeTwo_5 : sw_at cf b_X10_writeTwo 5 l st P = sw_ex cf b_X10_writeTwo [sw_ld 2 0, sw_ld 2 1, sw_ld 0 2, sw_ld 2 3, sw_cv 9 m_X10_reckonIn 3, sw_goto 9 [false, false, false, false, false, false]] l st P := rfl
theorem at_X10_writeTwo_6 : sw_at cf b_X10_writeTwo 6 l st P = sw_ex cf b_X10_writeTwo [sw_ld 2 1, sw_push (.int 2), sw_cv 6 m_X7_is 1, sw_iz 1 7 [true, true, true, true, false, false], sw_ld 2 1, sw_push (.int 4), sw_cv 6 m_X7_is 1, sw_iz 0 8 [true, true, true, true, false, false], sw_goto 7 [true, true, true, true, false, false]] l st P := rfl
theorem at_X10_writeTwo_7 : sw_at cf b_X10_writeTwo 7 l st P = sw_ex cf b_X10_writeTwo [sw_ld 2 0, sw_ld 2 1, sw_gf 6 0, sw_ld 0 2, sw_ld 0 2, sw_ld 2 3, sw_push (.int 0), sw_ald 64, sw_push (.int 0), sw_cv 9 m_X10_put_2 5, sw_goto 9 [false, false, false, false, false, false]] l st P := rfl
theorem at_X10_writeTwo_8 : sw_at cf b_X10_writeTwo 8 l st P = sw_ex cf b_X10_writeTwo [sw_ld 2 0, sw_ld 2 1, sw_ld 2 0, sw_gf 9 1, sw_cv 2 m_X3_scratch 0, sw_ld 2 3, sw_cv 9 m_X10_reckonIn 3, sw_ld 2 0, sw_ld 0 2, sw_ld 2 0, sw_gf 9 1, sw_cv 2 m_X3_scratch 0, sw_cv 9 m_X10_move 2, sw_goto 9 [false, false, false, false, false, false]] l st P := rfl
theorem at_X10_writeTwo_9 : sw_at cf b_X10_writeTwo 9 l st P = sw_ex cf b_X10_writeTwo [sw_ret] l st P := rfl
theorem M_X10_reckonIn (d : Nat) (as : List Value) (P : sw_P) (h : sw_wd 4 as = true) : sw_Z (d + 1) m_X10_reckonIn as P = sw_at (sw_Z d) b_X10_reckonIn 0 (sw_en 4 as) [] P := if_pos h
theorem at_X10_reckonIn_0 : sw_at cf b_X10_reckonIn 0 l st P = sw_ex cf b_X10_reckonIn [sw_ld 2 0, sw_ld 0 2, sw_ld 2 3, sw_push (.int 0), sw_ald 64, sw_cv 9 m_X10_move 2, sw_ld 2 3, sw_push (.int 0), sw_ld 0 2, sw_ast 64, sw_ld 2 0, sw_ld 2 1, sw_ld 0 2, sw_ld 2 3, sw_cv 9 m_X10_reckon 3, sw_ret] l st P := rfl
theorem M_X10_reckon (d : Nat) (as : List Value) (P : sw_P) (h : sw_wd 4 as = true) : sw_Z (d + 1) m_X10_reckon as P = sw_at (sw_Z d) b_X10_reckon 0 (sw_en 4 as) [] P := if_pos h
theorem at_X10_reckon_0 : sw_at cf b_X10_reckon 0 l st P = sw_ex cf b_X10_reckon [sw_ld 2 1, sw_gf 6 0, sw_sw [(5, 1, [true, true, true, true]), (6, 2, [true, false, true, true])] (3, [true, true, true, true])] l st P := rfl
theorem at_X10_reckon_1 : sw_at cf b_X10_reckon 1 l st P = sw_ex cf b_X10_reckon [sw_ld 2 0, sw_push (.int 5), sw_ld 0 2, sw_ld 2 3, sw_push (.int 0), sw_ald 64, sw_ld 2 1, sw_gf 6 3, sw_push (.int 0), sw_cv 9 m_X10_put_2 5, sw_goto 4 [false, false, false, false]] l st P := rfl
theorem at_X10_reckon_2 : sw_at cf b_X10_reckon 2 l st P = sw_ex cf b_X10_reckon [sw_ld 2 0, sw_push (.int 6), sw_ld 0 2, sw_ld 2 3, sw_push (.int 0), sw_ald 64, sw_ld 2 3, sw_push (.int 1), sw_ald 64, sw_ld 2 3, sw_push (.int 2), sw_ald 64, sw_cv 9 m_X10_put_2 5, sw_goto 4 [false, false, false, false]] l st P := rfl
theorem at_X10_reckon_3 : sw_at cf b_X10_reckon 3 l st P = sw_ex cf b_X10_reckon [sw_ld 2 0, sw_ld 2 1, sw_gf 6 0, sw_ld 0 2, sw_ld 2 3, sw_push (.int 0), sw_ald 64, sw_ld 2 3, sw_push (.int 1), sw_ald 64, sw_push (.int 0), sw_cv 9 m_X10_put_2 5, sw_goto 4 [false, false, false, false]] l st P := rfl
theorem at_X10_reckon_4 : sw_at cf b_X10_reckon 4 l st P = sw_ex cf b_X10_reckon [sw_ret] l st P := rfl
theorem M_X10_storeFrom (d : Nat) (as : List Value) (P : sw_P) (h : sw_wd 3 as = true) : sw_Z (d + 1) m_X10_storeFrom as P = sw_at (sw_Z d) b_X10_storeFrom 0 (sw_en 3 as) [] P := if_pos h
theorem at_X10_storeFrom_0 : sw_at cf b_X10_storeFrom 0 l st P = sw_ex cf b_X10_storeFrom [sw_ld 2 1, sw_gf 8 8, sw_iz 0 1 [false, false, false], sw_ld 2 0, sw_push (.int 8), sw_ld 0 2, sw_ld 2 1, sw_gf 8 9, sw_cv 9 m_X10_put 3, sw_goto 1 [false, false, false]] l st P := rfl
theorem at_X10_storeFrom_1 : sw_at cf b_X10_storeFrom 1 l st P = sw_ex cf b_X10_storeFrom [sw_ret] l st P := rfl
theorem M_X11_init (d : Nat) (as : List Value) (P : sw_P) (h : sw_wd 7 as = true) : sw_Z (d + 1) m_X11_init as P = sw_at (sw_Z d) b_X11_init 0 (sw_en 7 as) [] P := if_pos h
theorem at_X11_init_0 : sw_at cf b_X11_init 0 l st P = sw_ex cf b_X11_init [sw_ld 2 0, sw_oin, sw_ld 2 0, sw_push (.int (-1)), sw_pf 10 6 0, sw_ld 2 0, sw_ld 0 1, sw_pf 10 0 0, sw_ld 2 0, sw_ld 0 2, sw_pf 10 5 0, sw_ld 2 0, sw_ld 0 3, sw_pf 10 1 0, sw_ld 2 0, sw_ld 0 4, sw_pf 10 2 0, sw_ld 2 0, sw_ld 0 5, sw_pf 10 3 0, sw_ld 2 0, sw_ld 0 6, sw_pf 10 4 0, sw_ret] l st P := rfl
theorem M_X11_operand (d : Nat) (as : List Value) (P : sw_P) (h : sw_wd 2 as = true) : sw_Z (d + 1) m_X11_operand as P = sw_at (sw_Z d) b_X11_operand 0 (sw_en 2 as) [] P := if_pos h
theorem at_X11_operand_0 : sw_at cf b_X11_operand 0 l st P = sw_ex cf b_X11_operand [sw_ld 0 1, sw_iz 1 1 [true, true], sw_ld 2 0, sw_gf 10 1, sw_goto 4 [false, false]] l st P := rfl
theorem at_X11_operand_1 : sw_at cf b_X11_operand 1 l st P = sw_ex cf b_X11_operand [sw_ld 0 1, sw_push (.int 1), sw_ic 1 2 [true, true], sw_ld 2 0, sw_gf 10 2, sw_goto 4 [false, false]] l st P := rfl
theorem at_X11_operand_2 : sw_at cf b_X11_operand 2 l st P = sw_ex cf b_X11_operand [sw_ld 0 1, sw_push (.int 2), sw_ic 1 3 [true, false], sw_ld 2 0, sw_gf 10 3, sw_goto 4 [false, false]] l st P := rfl
theorem at_X11_operand_3 : sw_at cf b_X11_operand 3 l st P = sw_ex cf b_X11_operand [sw_ld 2 0, sw_gf 10 4, sw_goto 4 [false, false]] l st P := rfl
theorem at_X11_operand_4 : sw_at cf b_X11_operand 4 l st P = sw_ex cf b_X11_operand [sw_rv 0] l st P := rfl
theorem M_X12_init (d : Nat) (as : List Value) (P : sw_P) (h : sw_wd 3 as = true) : sw_Z (d + 1) m_X12_init as P = sw_at (sw_Z d) b_X12_init 0 (sw_en 3 as) [] P := if_pos h
theorem at_X12_init_0 : sw_at cf b_X12_init 0 l st P = sw_ex cf b_X12_init [sw_ld 2 0, sw_oin, sw_ld 2 0, sw_push (.int 11), sw_na 64, sw_pf 11 1 2, sw_ld 2 0, sw_push (.int 11), sw_na 64, sw_pf 11 2 2, sw_ld 2 0, sw_push (.int (-1)), sw_pf 11 5 0, sw_ld 2 0, sw_ld 2 1, sw_pf 11 0 2, sw_ld 2 0, sw_ld 0 2, sw_na 64, sw_pf 11 3 2, sw_ret] l st P := rfl
theorem M_X12_run (d : Nat) (as : List Value) (P : sw_P) (h : sw_wd 5 as = true) : sw_Z (d + 1) m_X12_run as P = sw_at (sw_Z d) b_X12_run 0 (sw_en 5 as) [] P := if_pos h
theorem at_X12_run_0 : sw_at cf b_X12_run 0 l st P = sw_ex cf b_X12_run [sw_push (.int 0), sw_sti 4, sw_goto 1 [true, true, true, true, true]] l st P := rfl
theorem at_X12_run_1 : sw_at cf b_X12_run 1 l st P = sw_ex cf b_X12_run [sw_ld 0 4, sw_ld 2 1, sw_cv 24 m_J2_size 0, sw_ic 3 3 [false, false, false, false, false], sw_ld 2 2, sw_ld 2 1, sw_ld 0 4, sw_cv 24 m_J2_get 1, sw_ct [10], sw_gf 10 5, sw_cv 24 m_J2_get 1, sw_ct [6], sw_gf 6 4, sw_ld 0 3, sw_ic 1 2 [true, true, true, true, true], sw_ld 2 0, sw_ld 2 1, sw_ld 0 4, sw_cv 24 m_J2_get 1, sw_ct [10], sw_cv 11 m_X12_step 1, sw_goto 2 [true, true, true, true, true]] l st P := rfl
theorem at_X12_run_2 : sw_at cf b_X12_run 2 l st P = sw_ex cf b_X12_run [sw_inc 4 1, sw_goto 1 [true, true, true, true, true]] l st P := rfl
theorem at_X12_run_3 : sw_at cf b_X12_run 3 l st P = sw_ex cf b_X12_run [sw_ret] l st P := rfl
theorem M_X12_step (d : Nat) (as : List Value) (P : sw_P) (h : sw_wd 5 as = true) : sw_Z (d + 1) m_X12_step as P = sw_at (sw_Z d) b_X12_step 0 (sw_en 5 as) [] P := if_pos h
theorem at_X12_step_0 : sw_at cf b_X12_step 0 l st P = sw_ex cf b_X12_step [sw_ld 2 0, sw_gf 11 5, sw_push (.int 1), sw_ii (fun x y => x + y), sw_sti 2, sw_ld 2 1, sw_gf 10 0, sw_push (.int 9), sw_ic 1 1 [true, true, true, false, false], sw_ld 0 2, sw_ld 2 0, sw_gf 11 2, sw_push (.int 0), sw_ald 64, sw_ld 2 0, sw_gf 11 2, sw_push (.int 1), sw_ald 64, sw_mm sw_max, sw_mm sw_max, sw_goto 2 [true, true, true, false, false]] l st P := rfl
theorem at_X12_step_1 : sw_at cf b_X12_step 1 l st P = sw_ex cf b_X12_step [sw_ld 0 2, sw_goto 2 [true, true, true, false, false]] l st P := rfl
theorem at_X12_step_2 : sw_at cf b_X12_step 2 l st P = sw_ex cf b_X12_step [sw_sti 3, sw_ld 2 1, sw_gf 10 0, sw_cs m_X12_firstRead 1, sw_sti 4, sw_goto 3 [true, true, true, true, true]] l st P := rfl
theorem at_X12_step_3 : sw_at cf b_X12_step 3 l st P = sw_ex cf b_X12_step [sw_ld 0 4, sw_ld 2 1, sw_gf 10 0, sw_cs m_X12_lastRead 1, sw_ic 4 4 [true, true, true, true, false], sw_ld 0 3, sw_ld 2 0, sw_gf 11 2, sw_ld 2 1, sw_ld 0 4, sw_cv 10 m_X11_operand 1, sw_ald 64, sw_mm sw_max, sw_sti 3, sw_inc 4 1, sw_goto 3 [true, true, true, true, true]] l st P := rfl
theorem at_X12_step_4 : sw_at cf b_X12_step 4 l st P = sw_ex cf b_X12_step [sw_ld 2 0, sw_dup, sw_gf 11 6, sw_ld 0 3, sw_ld 0 2, sw_ii (fun x y => x - y), sw_ii (fun x y => x + y), sw_pf 11 6 0, sw_ld 2 0, sw_ld 0 3, sw_pf 11 5 0, sw_ld 2 0, sw_dup, sw_gf 11 4, sw_push (.int 1), sw_ii (fun x y => x + y), sw_pf 11 4 0, sw_ld 2 1, sw_ld 2 1, sw_gf 10 6, sw_push (.int (-1)), sw_ic 1 5 [true, true, false, true, false], sw_ld 0 3, sw_goto 6 [true, true, false, true, false]] l st P := rfl
theorem at_X12_step_5 : sw_at cf b_X12_step 5 l st P = sw_ex cf b_X12_step [sw_ld 2 1, sw_gf 10 6, sw_goto 6 [true, true, false, true, false]] l st P := rfl
theorem at_X12_step_6 : sw_at cf b_X12_step 6 l st P = sw_ex cf b_X12_step [sw_pf 10 6 0, sw_ld 2 0, sw_ld 0 3, sw_ld 2 0, sw_gf 11 0, sw_ld 2 1, sw_gf 10 0, sw_cv 2 m_X3_latency 1, sw_ii (fun x y => x + y), sw_pf 11 7 0, sw_ld 2 0, sw_ld 2 1, sw_cv 11 m_X12_act 1, sw_ret] l st P := rfl
theorem M_X12_firstRead (d : Nat) (as : List Value) (P : sw_P) (h : sw_wd 1 as = true) : sw_Z (d + 1) m_X12_firstRead as P = sw_at (sw_Z d) b_X12_firstRead 0 (sw_en 1 as) [] P := if_pos h
theorem at_X12_firstRead_0 : sw_at cf b_X12_firstRead 0 l st P = sw_ex cf b_X12_firstRead [sw_ld 0 0, sw_push (.int 8), sw_ic 1 1 [false], sw_push (.int 0), sw_goto 2 [false]] l st P := rfl
theorem at_X12_firstRead_1 : sw_at cf b_X12_firstRead 1 l st P = sw_ex cf b_X12_firstRead [sw_push (.int 1), sw_goto 2 [false]] l st P := rfl
theorem at_X12_firstRead_2 : sw_at cf b_X12_firstRead 2 l st P = sw_ex cf b_X12_firstRead [sw_rv 0] l st P := rfl
theorem M_X12_lastRead (d : Nat) (as : List Value) (P : sw_P) (h : sw_wd 1 as = true) : sw_Z (d + 1) m_X12_lastRead as P = sw_at (sw_Z d) b_X12_lastRead 0 (sw_en 1 as) [] P := if_pos h
theorem at_X12_lastRead_0 : sw_at cf b_X12_lastRead 0 l st P = sw_ex cf b_X12_lastRead [sw_ld 0 0, sw_sw [(0, 1, [false]), (1, 3, [false]), (2, 5, [false]), (3, 5, [false]), (4, 5, [false]), (5, 3, [false]), (6, 4, [false]), (7, 1, [false]), (8, 2, [false]), (9, 1, [false])] (5, [false])] l st P := rfl
theorem at_X12_lastRead_1 : sw_at cf b_X12_lastRead 1 l st P = sw_ex cf b_X12_lastRead [sw_push (.int (-1)), sw_rv 0] l st P := rfl
theorem at_X12_lastRead_2 : sw_at cf b_X12_lastRead 2 l st P = sw_ex cf b_X12_lastRead [sw_push (.int 0), sw_rv 0] l st P := rfl
theorem at_X12_lastRead_3 : sw_at cf b_X12_lastRead 3 l st P = sw_ex cf b_X12_lastRead [sw_push (.int 1), sw_rv 0] l st P := rfl
theorem at_X12_lastRead_4 : sw_at cf b_X12_lastRead 4 l st P = sw_ex cf b_X12_lastRead [sw_push (.int 3), sw_rv 0] l st P := rfl
theorem at_X12_lastRead_5 : sw_at cf b_X12_lastRead 5 l st P = sw_ex cf b_X12_lastRead [sw_push (.int 2), sw_rv 0] l st P := rfl
theorem M_X12_act (d : Nat) (as : List Value) (P : sw_P) (h : sw_wd 2 as = true) : sw_Z (d + 1) m_X12_act as P = sw_at (sw_Z d) b_X12_act 0 (sw_en 2 as) [] P := if_pos h
theorem at_X12_act_0 : sw_at cf b_X12_act 0 l st P = sw_ex cf b_X12_act [sw_ld 2 1, sw_gf 10 0, sw_sw [(8, 1, [true, true]), (9, 2, [true, false])] (3, [true, true])] l st P := rfl
theorem at_X12_act_1 : sw_at cf b_X12_act 1 l st P = sw_ex cf b_X12_act [sw_ld 2 0, sw_gf 11 3, sw_ld 2 1, sw_push (.int 1), sw_cv 10 m_X11_operand 1, sw_ld 2 0, sw_ld 2 1, sw_push (.int 0), sw_cv 11 m_X12_at 2, sw_ast 64, sw_goto 4 [false, false]] l st P := rfl
theorem at_X12_act_2 : sw_at cf b_X12_act 2 l st P = sw_ex cf b_X12_act [sw_ld 2 0, sw_cv 11 m_X12_call 0, sw_goto 4 [false, false]] l st P := rfl
theorem at_X12_act_3 : sw_at cf b_X12_act 3 l st P = sw_ex cf b_X12_act [sw_ld 2 0, sw_gf 11 1, sw_ld 2 1, sw_push (.int 0), sw_cv 10 m_X11_operand 1, sw_ld 2 0, sw_ld 2 1, sw_cv 11 m_X12_reckoned 1, sw_ast 64, sw_ld 2 0, sw_gf 11 2, sw_ld 2 1, sw_push (.int 0), sw_cv 10 m_X11_operand 1, sw_ld 2 0, sw_gf 11 7, sw_ast 64, sw_goto 4 [false, false]] l st P := rfl
theorem at_X12_act_4 : sw_at cf b_X12_act 4 l st P = sw_ex cf b_X12_act [sw_ret] l st P := rfl
theorem M_X12_at (d : Nat) (as : List Value) (P : sw_P) (h : sw_wd 3 as = true) : sw_Z (d + 1) m_X12_at as P = sw_at (sw_Z d) b_X12_at 0 (sw_en 3 as) [] P := if_pos h
theorem at_X12_at_0 : sw_at cf b_X12_at 0 l st P = sw_ex cf b_X12_at [sw_ld 2 0, sw_gf 11 1, sw_ld 2 1, sw_ld 0 2, sw_cv 10 m_X11_operand 1, sw_ald 64, sw_rv 0] l st P := rfl
theorem M_X12_call (d : Nat) (as : List Value) (P : sw_P) (h : sw_wd 3 as = true) : sw_Z (d + 1) m_X12_call as P = sw_at (sw_Z d) b_X12_call 0 (sw_en 3 as) [] P := if_pos h
theorem at_X12_call_0 : sw_at cf b_X12_call 0 l st P = sw_ex cf b_X12_call [sw_ld 2 0, sw_gf 11 1, sw_push (.int 0), sw_ald 64, sw_ld 2 0, sw_gf 11 1, sw_push (.int 1), sw_ald 64, sw_cs m_X1_callOf 2, sw_sti 1, sw_push (.int 0), sw_sti 2, sw_goto 1 [true, true, true]] l st P := rfl
theorem at_X12_call_1 : sw_at cf b_X12_call 1 l st P = sw_ex cf b_X12_call [sw_ld 0 2, sw_ld 2 0, sw_gf 11 0, sw_gf 2 0, sw_ic 3 3 [true, true, false], sw_ld 2 0, sw_gf 11 0, sw_ld 0 2, sw_cv 2 m_X3_isKept 1, sw_iz 1 2 [true, true, true], sw_ld 2 0, sw_gf 11 1, sw_ld 0 2, sw_push (.int (-77777)), sw_ast 64, sw_ld 2 0, sw_gf 11 2, sw_ld 0 2, sw_ld 2 0, sw_gf 11 5, sw_ast 64, sw_goto 2 [true, true, true]] l st P := rfl
theorem at_X12_call_2 : sw_at cf b_X12_call 2 l st P = sw_ex cf b_X12_call [sw_inc 2 1, sw_goto 1 [true, true, true]] l st P := rfl
theorem at_X12_call_3 : sw_at cf b_X12_call 3 l st P = sw_ex cf b_X12_call [sw_ld 2 0, sw_gf 11 1, sw_push (.int 0), sw_ld 0 1, sw_ast 64, sw_ld 2 0, sw_gf 11 2, sw_push (.int 0), sw_ld 2 0, sw_gf 11 7, sw_ast 64, sw_ret] l st P := rfl
theorem M_X12_reckoned (d : Nat) (as : List Value) (P : sw_P) (h : sw_wd 2 as = true) : sw_Z (d + 1) m_X12_reckoned as P = sw_at (sw_Z d) b_X12_reckoned 0 (sw_en 2 as) [] P := if_pos h
theorem at_X12_reckoned_0 : sw_at cf b_X12_reckoned 0 l st P = sw_ex cf b_X12_reckoned [sw_ld 2 1, sw_gf 10 0, sw_sw [(0, 1, [false, true]), (1, 2, [true, true]), (2, 3, [true, true]), (3, 4, [true, true]), (4, 5, [true, true]), (5, 6, [true, true]), (6, 7, [true, true])] (8, [true, true])] l st P := rfl
theorem at_X12_reckoned_1 : sw_at cf b_X12_reckoned 1 l st P = sw_ex cf b_X12_reckoned [sw_ld 2 1, sw_push (.int 1), sw_cv 10 m_X11_operand 1, sw_rv 0] l st P := rfl
theorem at_X12_reckoned_2 : sw_at cf b_X12_reckoned 2 l st P = sw_ex cf b_X12_reckoned [sw_ld 2 0, sw_ld 2 1, sw_push (.int 1), sw_cv 11 m_X12_at 2, sw_rv 0] l st P := rfl
theorem at_X12_reckoned_3 : sw_at cf b_X12_reckoned 3 l st P = sw_ex cf b_X12_reckoned [sw_ld 2 0, sw_ld 2 1, sw_push (.int 1), sw_cv 11 m_X12_at 2, sw_ld 2 0, sw_ld 2 1, sw_push (.int 2), sw_cv 11 m_X12_at 2, sw_ii (fun x y => x + y), sw_rv 0] l st P := rfl
theorem at_X12_reckoned_4 : sw_at cf b_X12_reckoned 4 l st P = sw_ex cf b_X12_reckoned [sw_ld 2 0, sw_ld 2 1, sw_push (.int 1), sw_cv 11 m_X12_at 2, sw_ld 2 0, sw_ld 2 1, sw_push (.int 2), sw_cv 11 m_X12_at 2, sw_ii (fun x y => x - y), sw_rv 0] l st P := rfl
theorem at_X12_reckoned_5 : sw_at cf b_X12_reckoned 5 l st P = sw_ex cf b_X12_reckoned [sw_ld 2 0, sw_ld 2 1, sw_push (.int 1), sw_cv 11 m_X12_at 2, sw_ld 2 0, sw_ld 2 1, sw_push (.int 2), sw_cv 11 m_X12_at 2, sw_ii (fun x y => x * y), sw_rv 0] l st P := rfl
theorem at_X12_reckoned_6 : sw_at cf b_X12_reckoned 6 l st P = sw_ex cf b_X12_reckoned [sw_ld 2 0, sw_ld 2 1, sw_push (.int 1), sw_cv 11 m_X12_at 2, sw_ld 2 1, sw_push (.int 2), sw_cv 10 m_X11_operand 1, sw_ii (fun x y => x + y), sw_rv 0] l st P := rfl
theorem at_X12_reckoned_7 : sw_at cf b_X12_reckoned 7 l st P = sw_ex cf b_X12_reckoned [sw_ld 2 0, sw_ld 2 1, sw_push (.int 1), sw_cv 11 m_X12_at 2, sw_ld 2 0, sw_ld 2 1, sw_push (.int 2), sw_cv 11 m_X12_at 2, sw_ii (fun x y => x * y), sw_ld 2 0, sw_ld 2 1, sw_push (.int 3), sw_cv 11 m_X12_at 2, sw_ii (fun x y => x + y), sw_rv 0] l st P := rfl
theorem at_X12_reckoned_8 : sw_at cf b_X12_reckoned 8 l st P = sw_ex cf b_X12_reckoned [sw_ld 2 0, sw_gf 11 3, sw_ld 2 1, sw_push (.int 1), sw_cv 10 m_X11_operand 1, sw_ald 64, sw_rv 0] l st P := rfl
theorem M_X13_init (d : Nat) (as : List Value) (P : sw_P) (h : sw_wd 1 as = true) : sw_Z (d + 1) m_X13_init as P = sw_at (sw_Z d) b_X13_init 0 (sw_en 1 as) [] P := if_pos h
theorem at_X13_init_0 : sw_at cf b_X13_init 0 l st P = sw_ex cf b_X13_init [sw_ld 2 0, sw_oin, sw_ld 2 0, sw_nw 13 [.null, .null, .null, .null, .int 0], sw_dup, sw_ci m_X14_init 0, sw_pf 12 1 2, sw_ld 2 0, sw_nw 14 [.int 0, .int 0, .int 0, .int 0, .int 0], sw_dup, sw_push (.int 8), sw_push (.int 28), sw_push (.int 15), sw_push (.int 1), sw_push (.int 0), sw_ci m_X15_init 5, sw_pf 12 2 2, sw_ret] l st P := rfl
theorem M_X13_thrown (d : Nat) (as : List Value) (P : sw_P) (h : sw_wd 1 as = true) : sw_Z (d + 1) m_X13_thrown as P = sw_at (sw_Z d) b_X13_thrown 0 (sw_en 1 as) [] P := if_pos h
theorem at_X13_thrown_0 : sw_at cf b_X13_thrown 0 l st P = sw_ex cf b_X13_thrown [sw_ld 2 0, sw_gf 12 0, sw_rv 0] l st P := rfl
theorem M_X13_machine (d : Nat) (as : List Value) (P : sw_P) (h : sw_wd 7 as = true) : sw_Z (d + 1) m_X13_machine as P = sw_at (sw_Z d) b_X13_machine 0 (sw_en 7 as) [] P := if_pos h
theorem at_X13_machine_0 : sw_at cf b_X13_machine 0 l st P = sw_ex cf b_X13_machine [sw_ld 2 0, sw_ld 0 1, sw_ld 0 2, sw_cs m_X13_isNoMachine 2, sw_iz 1 1 [true, true, true, true, true, true, false], sw_ld 0 3, sw_push (.int 0), sw_push (.int 99), sw_cs m_X13_isIn 3, sw_iz 1 2 [true, true, true, true, true, true, false], sw_goto 1 [true, true, true, true, true, true, false]] l st P := rfl
theorem at_X13_machine_1 : sw_at cf b_X13_machine 1 l st P = sw_ex cf b_X13_machine [sw_push (.int 1), sw_goto 3 [true, true, true, true, true, true, false]] l st P := rfl
theorem at_X13_machine_2 : sw_at cf b_X13_machine 2 l st P = sw_ex cf b_X13_machine [sw_push (.int 0), sw_goto 3 [true, true, true, true, true, true, false]] l st P := rfl
theorem at_X13_machine_3 : sw_at cf b_X13_machine 3 l st P = sw_ex cf b_X13_machine [sw_push (.int 1), sw_cv 12 m_X13_start 2, sw_iz 0 4 [true, true, true, true, true, true, false], sw_push (.int 0), sw_rv 0] l st P := rfl
theorem at_X13_machine_4 : sw_at cf b_X13_machine 4 l st P = sw_ex cf b_X13_machine [sw_ld 2 0, sw_gf 12 2, sw_gf 14 0, sw_sti 6, sw_ld 2 0, sw_nw 14 [.int 0, .int 0, .int 0, .int 0, .int 0], sw_dup, sw_ld 0 1, sw_ld 0 2, sw_ld 0 3, sw_ld 0 4, sw_ld 0 5, sw_ci m_X15_init 5, sw_pf 12 2 2, sw_ld 0 6, sw_rv 0] l st P := rfl
theorem M_X13_isNoMachine (d : Nat) (as : List Value) (P : sw_P) (h : sw_wd 3 as = true) : sw_Z (d + 1) m_X13_isNoMachine as P = sw_at (sw_Z d) b_X13_isNoMachine 0 (sw_en 3 as) [] P := if_pos h
theorem at_X13_isNoMachine_0 : sw_at cf b_X13_isNoMachine 0 l st P = sw_ex cf b_X13_isNoMachine [sw_ld 0 0, sw_push (.int 5), sw_push (.int 11), sw_cs m_X13_isIn 3, sw_iz 1 1 [true, true, false], sw_push (.int 1), sw_rv 1] l st P := rfl
theorem at_X13_isNoMachine_1 : sw_at cf b_X13_isNoMachine 1 l st P = sw_ex cf b_X13_isNoMachine [sw_push (.int 1), sw_ld 0 0, sw_push (.int 3), sw_ii (fun x y => x - y), sw_ii (fun x y => x <<< (y &&& 31)), sw_push (.int 4), sw_ii (fun x y => x - y), sw_sti 2, sw_ld 0 1, sw_iz 2 2 [false, false, false], sw_ld 0 1, sw_ld 0 2, sw_push (.int (-1)), sw_ii (fun x y => x ^^^ y), sw_ii (fun x y => x &&& y), sw_iz 0 3 [false, false, false], sw_goto 2 [false, false, false]] l st P := rfl
theorem at_X13_isNoMachine_2 : sw_at cf b_X13_isNoMachine 2 l st P = sw_ex cf b_X13_isNoMachine [sw_push (.int 1), sw_goto 4 [false, false, false]] l st P := rfl
theorem at_X13_isNoMachine_3 : sw_at cf b_X13_isNoMachine 3 l st P = sw_ex cf b_X13_isNoMachine [sw_push (.int 0), sw_goto 4 [false, false, false]] l st P := rfl
theorem at_X13_isNoMachine_4 : sw_at cf b_X13_isNoMachine 4 l st P = sw_ex cf b_X13_isNoMachine [sw_rv 1] l st P := rfl
theorem M_X13_isIn (d : Nat) (as : List Value) (P : sw_P) (h : sw_wd 3 as = true) : sw_Z (d + 1) m_X13_isIn as P = sw_at (sw_Z d) b_X13_isIn 0 (sw_en 3 as) [] P := if_pos h
theorem at_X13_isIn_0 : sw_at cf b_X13_isIn 0 l st P = sw_ex cf b_X13_isIn [sw_ld 0 0, sw_ld 0 1, sw_ic 2 1 [false, false, false], sw_ld 0 0, sw_ld 0 2, sw_ic 4 1 [false, false, false], sw_push (.int 1), sw_goto 2 [false, false, false]] l st P := rfl
theorem at_X13_isIn_1 : sw_at cf b_X13_isIn 1 l st P = sw_ex cf b_X13_isIn [sw_push (.int 0), sw_goto 2 [false, false, false]] l st P := rfl
theorem at_X13_isIn_2 : sw_at cf b_X13_isIn 2 l st P = sw_ex cf b_X13_isIn [sw_rv 1] l st P := rfl
theorem M_X13_start (d : Nat) (as : List Value) (P : sw_P) (h : sw_wd 3 as = true) : sw_Z (d + 1) m_X13_start as P = sw_at (sw_Z d) b_X13_start 0 (sw_en 3 as) [] P := if_pos h
theorem at_X13_start_0 : sw_at cf b_X13_start 0 l st P = sw_ex cf b_X13_start [sw_ld 2 0, sw_push (.int 0), sw_pf 12 0 0, sw_ld 2 0, sw_ld 0 1, sw_ld 0 2, sw_cv 12 m_X13_refuse 2, sw_rv 1] l st P := rfl
theorem M_X13_refuse (d : Nat) (as : List Value) (P : sw_P) (h : sw_wd 3 as = true) : sw_Z (d + 1) m_X13_refuse as P = sw_at (sw_Z d) b_X13_refuse 0 (sw_en 3 as) [] P := if_pos h
theorem at_X13_refuse_0 : sw_at cf b_X13_refuse 0 l st P = sw_ex cf b_X13_refuse [sw_ld 0 1, sw_iz 0 1 [true, false, false], sw_ld 2 0, sw_gf 12 0, sw_iz 1 1 [true, false, false], sw_ld 2 0, sw_ld 0 2, sw_pf 12 0 0, sw_goto 1 [true, false, false]] l st P := rfl
theorem at_X13_refuse_1 : sw_at cf b_X13_refuse 1 l st P = sw_ex cf b_X13_refuse [sw_ld 2 0, sw_gf 12 0, sw_iz 5 2 [false, false, false], sw_push (.int 1), sw_goto 3 [false, false, false]] l st P := rfl
theorem at_X13_refuse_2 : sw_at cf b_X13_refuse 2 l st P = sw_ex cf b_X13_refuse [sw_push (.int 0), sw_goto 3 [false, false, false]] l st P := rfl
theorem at_X13_refuse_3 : sw_at cf b_X13_refuse 3 l st P = sw_ex cf b_X13_refuse [sw_rv 1] l st P := rfl
theorem M_X13_latency (d : Nat) (as : List Value) (P : sw_P) (h : sw_wd 4 as = true) : sw_Z (d + 1) m_X13_latency as P = sw_at (sw_Z d) b_X13_latency 0 (sw_en 4 as) [] P := if_pos h
theorem at_X13_latency_0 : sw_at cf b_X13_latency 0 l st P = sw_ex cf b_X13_latency [sw_ld 2 0, sw_ld 0 1, sw_cs m_X13_isNoKind 1, sw_push (.int 1), sw_cv 12 m_X13_start 2, sw_iz 1 1 [false, false, false, false], sw_ld 2 0, sw_ld 0 2, sw_cs m_X13_isNoLatency 1, sw_push (.int 2), sw_cv 12 m_X13_refuse 2, sw_iz 0 2 [true, true, true, false], sw_goto 1 [false, false, false, false]] l st P := rfl
theorem at_X13_latency_1 : sw_at cf b_X13_latency 1 l st P = sw_ex cf b_X13_latency [sw_push (.int 0), sw_rv 0] l st P := rfl
theorem at_X13_latency_2 : sw_at cf b_X13_latency 2 l st P = sw_ex cf b_X13_latency [sw_ld 2 0, sw_gf 12 1, sw_gf 13 3, sw_ld 0 1, sw_ald 64, sw_sti 3, sw_ld 2 0, sw_gf 12 1, sw_gf 13 3, sw_ld 0 1, sw_ld 0 2, sw_ast 64, sw_ld 0 3, sw_rv 0] l st P := rfl
theorem M_X13_isNoKind (d : Nat) (as : List Value) (P : sw_P) (h : sw_wd 1 as = true) : sw_Z (d + 1) m_X13_isNoKind as P = sw_at (sw_Z d) b_X13_isNoKind 0 (sw_en 1 as) [] P := if_pos h
theorem at_X13_isNoKind_0 : sw_at cf b_X13_isNoKind 0 l st P = sw_ex cf b_X13_isNoKind [sw_ld 0 0, sw_push (.int 0), sw_push (.int 7), sw_cs m_X13_isIn 3, sw_iz 1 1 [false], sw_push (.int 1), sw_goto 2 [false]] l st P := rfl
theorem at_X13_isNoKind_1 : sw_at cf b_X13_isNoKind 1 l st P = sw_ex cf b_X13_isNoKind [sw_push (.int 0), sw_goto 2 [false]] l st P := rfl
theorem at_X13_isNoKind_2 : sw_at cf b_X13_isNoKind 2 l st P = sw_ex cf b_X13_isNoKind [sw_rv 1] l st P := rfl
theorem M_X13_isNoLatency (d : Nat) (as : List Value) (P : sw_P) (h : sw_wd 1 as = true) : sw_Z (d + 1) m_X13_isNoLatency as P = sw_at (sw_Z d) b_X13_isNoLatency 0 (sw_en 1 as) [] P := if_pos h
theorem at_X13_isNoLatency_0 : sw_at cf b_X13_isNoLatency 0 l st P = sw_ex cf b_X13_isNoLatency [sw_ld 0 0, sw_push (.int 1), sw_push (.int 9), sw_cs m_X13_isIn 3, sw_iz 1 1 [false], sw_push (.int 1), sw_goto 2 [false]] l st P := rfl
theorem at_X13_isNoLatency_1 : sw_at cf b_X13_isNoLatency 1 l st P = sw_ex cf b_X13_isNoLatency [sw_push (.int 0), sw_goto 2 [false]] l st P := rfl
theorem at_X13_isNoLatency_2 : sw_at cf b_X13_isNoLatency 2 l st P = sw_ex cf b_X13_isNoLatency [sw_rv 1] l st P := rfl
theorem M_X13_node (d : Nat) (as : List Value) (P : sw_P) (h : sw_wd 5 as = true) : sw_Z (d + 1) m_X13_node as P = sw_at (sw_Z d) b_X13_node 0 (sw_en 5 as) [] P := if_pos h
theorem at_X13_node_0 : sw_at cf b_X13_node 0 l st P = sw_ex cf b_X13_node [sw_ld 2 0, sw_ld 2 0, sw_ld 0 1, sw_ld 0 2, sw_ld 0 3, sw_cv 12 m_X13_isNode 3, sw_iz 1 1 [true, true, true, true, false], sw_push (.int 1), sw_goto 2 [true, true, true, true, false]] l st P := rfl
theorem at_X13_node_1 : sw_at cf b_X13_node 1 l st P = sw_ex cf b_X13_node [sw_push (.int 0), sw_goto 2 [true, true, true, true, false]] l st P := rfl
theorem at_X13_node_2 : sw_at cf b_X13_node 2 l st P = sw_ex cf b_X13_node [sw_push (.int 1), sw_cv 12 m_X13_start 2, sw_iz 1 5 [false, false, false, false, false], sw_ld 2 0, sw_ld 2 0, sw_gf 12 1, sw_gf 13 0, sw_cv 24 m_J2_size 0, sw_push (.int 80), sw_ic 1 3 [true, true, true, true, false], sw_push (.int 1), sw_goto 4 [true, true, true, true, false]] l st P := rfl
theorem at_X13_node_3 : sw_at cf b_X13_node 3 l st P = sw_ex cf b_X13_node [sw_push (.int 0), sw_goto 4 [true, true, true, true, false]] l st P := rfl
theorem at_X13_node_4 : sw_at cf b_X13_node 4 l st P = sw_ex cf b_X13_node [sw_push (.int 2), sw_cv 12 m_X13_refuse 2, sw_iz 0 6 [true, true, true, true, false], sw_goto 5 [false, false, false, false, false]] l st P := rfl
theorem at_X13_node_5 : sw_at cf b_X13_node 5 l st P = sw_ex cf b_X13_node [sw_push (.int 0), sw_rv 0] l st P := rfl
theorem at_X13_node_6 : sw_at cf b_X13_node 6 l st P = sw_ex cf b_X13_node [sw_nw 16 [.int 0, .int 0, .int 0, .int 0], sw_dup, sw_ld 0 1, sw_ld 0 2, sw_ld 0 3, sw_ci m_X17_init 3, sw_sta 4, sw_ld 2 0, sw_gf 12 1, sw_gf 13 0, sw_ld 2 4, sw_cv 24 m_J2_add 1, sw_pop, sw_ld 2 4, sw_cv 16 m_X17_isOfTwo 0, sw_iz 0 7 [true, false, false, false, false], sw_ld 2 0, sw_gf 12 1, sw_ld 0 2, sw_cv 13 m_X14_of 1, sw_push (.int 1), sw_pf 16 3 1, sw_ld 2 0, sw_gf 12 1, sw_ld 0 3, sw_cv 13 m_X14_of 1, sw_push (.int 1), sw_pf 16 3 1, sw_goto 7 [true, false, false, false, false]] l st P := rfl
theorem at_X13_node_7 : sw_at cf b_X13_node 7 l st P = sw_ex cf b_X13_node [sw_ld 2 0, sw_gf 12 1, sw_gf 13 0, sw_cv 24 m_J2_size 0, sw_push (.int 1), sw_ii (fun x y => x - y), sw_rv 0] l st P := rfl
theorem M_X13_isNode (d : Nat) (as : List Value) (P : sw_P) (h : sw_wd 4 as = true) : sw_Z (d + 1) m_X13_isNode as P = sw_at (sw_Z d) b_X13_isNode 0 (sw_en 4 as) [] P := if_pos h
theorem at_X13_isNode_0 : sw_at cf b_X13_isNode 0 l st P = sw_ex cf b_X13_isNode [sw_ld 0 1, sw_iz 1 3 [true, true, true, true], sw_ld 0 2, sw_push (.int (-999)), sw_push (.int 999), sw_cs m_X13_isIn 3, sw_iz 0 1 [false, false, false, false], sw_ld 0 3, sw_iz 1 1 [false, false, false, false], sw_push (.int 1), sw_goto 2 [false, false, false, false]] l st P := rfl
theorem at_X13_isNode_1 : sw_at cf b_X13_isNode 1 l st P = sw_ex cf b_X13_isNode [sw_push (.int 0), sw_goto 2 [false, false, false, false]] l st P := rfl
theorem at_X13_isNode_2 : sw_at cf b_X13_isNode 2 l st P = sw_ex cf b_X13_isNode [sw_rv 1] l st P := rfl
theorem at_X13_isNode_3 : sw_at cf b_X13_isNode 3 l st P = sw_ex cf b_X13_isNode [sw_ld 0 1, sw_push (.int 1), sw_ic 1 6 [true, true, true, true], sw_ld 0 2, sw_push (.int 0), sw_push (.int 7), sw_cs m_X13_isIn 3, sw_iz 0 4 [false, false, false, false], sw_ld 0 3, sw_iz 1 4 [false, false, false, false], sw_push (.int 1), sw_goto 5 [false, false, false, false]] l st P := rfl
theorem at_X13_isNode_4 : sw_at cf b_X13_isNode 4 l st P = sw_ex cf b_X13_isNode [sw_push (.int 0), sw_goto 5 [false, false, false, false]] l st P := rfl
theorem at_X13_isNode_5 : sw_at cf b_X13_isNode 5 l st P = sw_ex cf b_X13_isNode [sw_rv 1] l st P := rfl
theorem at_X13_isNode_6 : sw_at cf b_X13_isNode 6 l st P = sw_ex cf b_X13_isNode [sw_ld 0 1, sw_push (.int 2), sw_push (.int 5), sw_cs m_X13_isIn 3, sw_iz 0 7 [false, false, false, false], sw_ld 2 0, sw_ld 0 2, sw_cv 12 m_X13_isFree 1, sw_iz 0 7 [false, false, false, false], sw_ld 2 0, sw_ld 0 3, sw_cv 12 m_X13_isFree 1, sw_iz 0 7 [false, false, false, false], sw_ld 0 2, sw_ld 0 3, sw_ic 0 7 [false, false, false, false], sw_push (.int 1), sw_goto 8 [false, false, false, false]] l st P := rfl
theorem at_X13_isNode_7 : sw_at cf b_X13_isNode 7 l st P = sw_ex cf b_X13_isNode [sw_push (.int 0), sw_goto 8 [false, false, false, false]] l st P := rfl
theorem at_X13_isNode_8 : sw_at cf b_X13_isNode 8 l st P = sw_ex cf b_X13_isNode [sw_rv 1] l st P := rfl
theorem M_X13_isFree (d : Nat) (as : List Value) (P : sw_P) (h : sw_wd 2 as = true) : sw_Z (d + 1) m_X13_isFree as P = sw_at (sw_Z d) b_X13_isFree 0 (sw_en 2 as) [] P := if_pos h
theorem at_X13_isFree_0 : sw_at cf b_X13_isFree 0 l st P = sw_ex cf b_X13_isFree [sw_ld 0 1, sw_push (.int 0), sw_ld 2 0, sw_gf 12 1, sw_gf 13 0, sw_cv 24 m_J2_size 0, sw_push (.int 1), sw_ii (fun x y => x - y), sw_cs m_X13_isIn 3, sw_iz 0 1 [false, false], sw_ld 2 0, sw_gf 12 1, sw_ld 0 1, sw_cv 13 m_X14_of 1, sw_gf 16 3, sw_iz 1 1 [false, false], sw_push (.int 1), sw_goto 2 [false, false]] l st P := rfl
theorem at_X13_isFree_1 : sw_at cf b_X13_isFree 1 l st P = sw_ex cf b_X13_isFree [sw_push (.int 0), sw_goto 2 [false, false]] l st P := rfl
theorem at_X13_isFree_2 : sw_at cf b_X13_isFree 2 l st P = sw_ex cf b_X13_isFree [sw_rv 1] l st P := rfl
theorem M_X13_statement (d : Nat) (as : List Value) (P : sw_P) (h : sw_wd 4 as = true) : sw_Z (d + 1) m_X13_statement as P = sw_at (sw_Z d) b_X13_statement 0 (sw_en 4 as) [] P := if_pos h
theorem at_X13_statement_0 : sw_at cf b_X13_statement 0 l st P = sw_ex cf b_X13_statement [sw_ld 2 0, sw_ld 0 1, sw_cs m_X13_isNoBlock 1, sw_iz 1 1 [true, true, true, true], sw_ld 0 2, sw_cs m_X13_isNoVariable 1, sw_iz 1 1 [true, true, true, true], sw_ld 2 0, sw_ld 0 3, sw_cv 12 m_X13_isNoNode 1, sw_iz 0 2 [true, true, true, true], sw_goto 1 [true, true, true, true]] l st P := rfl
theorem at_X13_statement_1 : sw_at cf b_X13_statement 1 l st P = sw_ex cf b_X13_statement [sw_push (.int 1), sw_goto 3 [true, true, true, true]] l st P := rfl
theorem at_X13_statement_2 : sw_at cf b_X13_statement 2 l st P = sw_ex cf b_X13_statement [sw_push (.int 0), sw_goto 3 [true, true, true, true]] l st P := rfl
theorem at_X13_statement_3 : sw_at cf b_X13_statement 3 l st P = sw_ex cf b_X13_statement [sw_push (.int 1), sw_cv 12 m_X13_start 2, sw_iz 1 6 [false, false, false, false], sw_ld 2 0, sw_ld 2 0, sw_gf 12 1, sw_ld 0 3, sw_cv 13 m_X14_of 1, sw_gf 16 3, sw_push (.int 2), sw_cv 12 m_X13_refuse 2, sw_iz 1 6 [false, false, false, false], sw_ld 2 0, sw_ld 2 0, sw_cv 12 m_X13_statements 0, sw_push (.int 24), sw_ic 1 4 [true, true, true, true], sw_push (.int 1), sw_goto 5 [true, true, true, true]] l st P := rfl
theorem at_X13_statement_4 : sw_at cf b_X13_statement 4 l st P = sw_ex cf b_X13_statement [sw_push (.int 0), sw_goto 5 [true, true, true, true]] l st P := rfl
theorem at_X13_statement_5 : sw_at cf b_X13_statement 5 l st P = sw_ex cf b_X13_statement [sw_push (.int 3), sw_cv 12 m_X13_refuse 2, sw_iz 0 7 [true, true, true, true], sw_goto 6 [false, false, false, false]] l st P := rfl
theorem at_X13_statement_6 : sw_at cf b_X13_statement 6 l st P = sw_ex cf b_X13_statement [sw_push (.int 0), sw_rv 0] l st P := rfl
theorem at_X13_statement_7 : sw_at cf b_X13_statement 7 l st P = sw_ex cf b_X13_statement [sw_ld 2 0, sw_gf 12 1, sw_gf 13 1, sw_ld 0 1, sw_cv 24 m_J2_get 1, sw_ct [24], sw_push (.int 2), sw_na 64, sw_dup, sw_push (.int 0), sw_ld 0 2, sw_ast 64, sw_dup, sw_push (.int 1), sw_ld 0 3, sw_ast 64, sw_cv 24 m_J2_add 1, sw_pop, sw_ld 2 0, sw_gf 12 1, sw_ld 0 3, sw_cv 13 m_X14_of 1, sw_push (.int 1), sw_pf 16 3 1, sw_ld 2 0, sw_gf 12 1, sw_gf 13 1, sw_ld 0 1, sw_cv 24 m_J2_get 1, sw_ct [24], sw_cv 24 m_J2_size 0, sw_rv 0] l st P := rfl
theorem M_X13_isNoBlock (d : Nat) (as : List Value) (P : sw_P) (h : sw_wd 1 as = true) : sw_Z (d + 1) m_X13_isNoBlock as P = sw_at (sw_Z d) b_X13_isNoBlock 0 (sw_en 1 as) [] P := if_pos h
theorem at_X13_isNoBlock_0 : sw_at cf b_X13_isNoBlock 0 l st P = sw_ex cf b_X13_isNoBlock [sw_ld 0 0, sw_push (.int 0), sw_push (.int 3), sw_cs m_X13_isIn 3, sw_iz 1 1 [false], sw_push (.int 1), sw_goto 2 [false]] l st P := rfl
theorem at_X13_isNoBlock_1 : sw_at cf b_X13_isNoBlock 1 l st P = sw_ex cf b_X13_isNoBlock [sw_push (.int 0), sw_goto 2 [false]] l st P := rfl
theorem at_X13_isNoBlock_2 : sw_at cf b_X13_isNoBlock 2 l st P = sw_ex cf b_X13_isNoBlock [sw_rv 1] l st P := rfl
theorem M_X13_isNoVariable (d : Nat) (as : List Value) (P : sw_P) (h : sw_wd 1 as = true) : sw_Z (d + 1) m_X13_isNoVariable as P = sw_at (sw_Z d) b_X13_isNoVariable 0 (sw_en 1 as) [] P := if_pos h
theorem at_X13_isNoVariable_0 : sw_at cf b_X13_isNoVariable 0 l st P = sw_ex cf b_X13_isNoVariable [sw_ld 0 0, sw_push (.int 0), sw_push (.int 7), sw_cs m_X13_isIn 3, sw_iz 1 1 [false], sw_push (.int 1), sw_goto 2 [false]] l st P := rfl
theorem at_X13_isNoVariable_1 : sw_at cf b_X13_isNoVariable 1 l st P = sw_ex cf b_X13_isNoVariable [sw_push (.int 0), sw_goto 2 [false]] l st P := rfl
theorem at_X13_isNoVariable_2 : sw_at cf b_X13_isNoVariable 2 l st P = sw_ex cf b_X13_isNoVariable [sw_rv 1] l st P := rfl
theorem M_X13_isNoNode (d : Nat) (as : List Value) (P : sw_P) (h : sw_wd 2 as = true) : sw_Z (d + 1) m_X13_isNoNode as P = sw_at (sw_Z d) b_X13_isNoNode 0 (sw_en 2 as) [] P := if_pos h
theorem at_X13_isNoNode_0 : sw_at cf b_X13_isNoNode 0 l st P = sw_ex cf b_X13_isNoNode [sw_ld 0 1, sw_push (.int 0), sw_ld 2 0, sw_gf 12 1, sw_gf 13 0, sw_cv 24 m_J2_size 0, sw_push (.int 1), sw_ii (fun x y => x - y), sw_cs m_X13_isIn 3, sw_iz 1 1 [false, false], sw_push (.int 1), sw_goto 2 [false, false]] l st P := rfl
theorem at_X13_isNoNode_1 : sw_at cf b_X13_isNoNode 1 l st P = sw_ex cf b_X13_isNoNode [sw_push (.int 0), sw_goto 2 [false, false]] l st P := rfl
theorem at_X13_isNoNode_2 : sw_at cf b_X13_isNoNode 2 l st P = sw_ex cf b_X13_isNoNode [sw_rv 1] l st P := rfl
theorem M_X13_statements (d : Nat) (as : List Value) (P : sw_P) (h : sw_wd 4 as = true) : sw_Z (d + 1) m_X13_statements as P = sw_at (sw_Z d) b_X13_statements 0 (sw_en 4 as) [] P := if_pos h
theorem at_X13_statements_0 : sw_at cf b_X13_statements 0 l st P = sw_ex cf b_X13_statements [sw_push (.int 0), sw_sti 1, sw_ld 2 0, sw_gf 12 1, sw_gf 13 1, sw_cv 24 m_J2_iterator 0, sw_sta 2, sw_goto 1 [false, true, true, false]] l st P := rfl
theorem at_X13_statements_1 : sw_at cf b_X13_statements 1 l st P = sw_ex cf b_X13_statements [sw_ld 2 2, sw_cv 25 m_J23_hasNext 0, sw_iz 0 2 [false, true, false, false], sw_ld 2 2, sw_cv 25 m_J23_next 0, sw_ct [24], sw_sta 3, sw_ld 0 1, sw_ld 2 3, sw_cv 24 m_J2_size 0, sw_ii (fun x y => x + y), sw_sti 1, sw_goto 1 [false, true, true, false]] l st P := rfl
theorem at_X13_statements_2 : sw_at cf b_X13_statements 2 l st P = sw_ex cf b_X13_statements [sw_ld 0 1, sw_rv 0] l st P := rfl
theorem M_X13_take (d : Nat) (as : List Value) (P : sw_P) (h : sw_wd 4 as = true) : sw_Z (d + 1) m_X13_take as P = sw_at (sw_Z d) b_X13_take 0 (sw_en 4 as) [] P := if_pos h
theorem at_X13_take_0 : sw_at cf b_X13_take 0 l st P = sw_ex cf b_X13_take [sw_ld 2 0, sw_ld 0 1, sw_cs m_X13_isNoBlock 1, sw_push (.int 1), sw_cv 12 m_X13_start 2, sw_iz 1 1 [false, false, false, false], sw_ld 2 0, sw_ld 2 0, sw_gf 12 1, sw_gf 13 1, sw_ld 0 1, sw_cv 24 m_J2_get 1, sw_ct [24], sw_cv 24 m_J2_isEmpty 0, sw_push (.int 2), sw_cv 12 m_X13_refuse 2, sw_iz 0 2 [true, true, false, false], sw_goto 1 [false, false, false, false]] l st P := rfl
theorem at_X13_take_1 : sw_at cf b_X13_take 1 l st P = sw_ex cf b_X13_take [sw_push (.int 0), sw_rv 0] l st P := rfl
theorem at_X13_take_2 : sw_at cf b_X13_take 2 l st P = sw_ex cf b_X13_take [sw_ld 2 0, sw_gf 12 1, sw_gf 13 1, sw_ld 0 1, sw_cv 24 m_J2_get 1, sw_ct [24], sw_sta 2, sw_ld 2 2, sw_ld 2 2, sw_cv 24 m_J2_size 0, sw_push (.int 1), sw_ii (fun x y => x - y), sw_cv 24 m_J2_remove 1, sw_ct [64], sw_push (.int 1), sw_ald 64, sw_sti 3, sw_ld 2 0, sw_gf 12 1, sw_ld 0 3, sw_cv 13 m_X14_of 1, sw_push (.int 0), sw_pf 16 3 1, sw_ld 0 3, sw_rv 0] l st P := rfl
theorem M_X13_times (d : Nat) (as : List Value) (P : sw_P) (h : sw_wd 4 as = true) : sw_Z (d + 1) m_X13_times as P = sw_at (sw_Z d) b_X13_times 0 (sw_en 4 as) [] P := if_pos h
theorem at_X13_times_0 : sw_at cf b_X13_times 0 l st P = sw_ex cf b_X13_times [sw_ld 2 0, sw_ld 0 1, sw_cs m_X13_isNoBlock 1, sw_push (.int 1), sw_cv 12 m_X13_start 2, sw_iz 1 3 [false, false, false, false], sw_ld 2 0, sw_ld 0 2, sw_push (.int 1), sw_push (.int 9), sw_cs m_X13_isIn 3, sw_iz 1 1 [true, true, true, false], sw_push (.int 1), sw_goto 2 [true, true, true, false]] l st P := rfl
theorem at_X13_times_1 : sw_at cf b_X13_times 1 l st P = sw_ex cf b_X13_times [sw_push (.int 0), sw_goto 2 [true, true, true, false]] l st P := rfl
theorem at_X13_times_2 : sw_at cf b_X13_times 2 l st P = sw_ex cf b_X13_times [sw_push (.int 2), sw_cv 12 m_X13_refuse 2, sw_iz 0 4 [true, true, true, false], sw_goto 3 [false, false, false, false]] l st P := rfl
theorem at_X13_times_3 : sw_at cf b_X13_times 3 l st P = sw_ex cf b_X13_times [sw_push (.int 0), sw_rv 0] l st P := rfl
theorem at_X13_times_4 : sw_at cf b_X13_times 4 l st P = sw_ex cf b_X13_times [sw_ld 2 0, sw_gf 12 1, sw_gf 13 2, sw_ld 0 1, sw_ald 64, sw_sti 3, sw_ld 2 0, sw_gf 12 1, sw_gf 13 2, sw_ld 0 1, sw_ld 0 2, sw_ast 64, sw_ld 0 3, sw_rv 0] l st P := rfl
theorem M_X13_out (d : Nat) (as : List Value) (P : sw_P) (h : sw_wd 3 as = true) : sw_Z (d + 1) m_X13_out as P = sw_at (sw_Z d) b_X13_out 0 (sw_en 3 as) [] P := if_pos h
theorem at_X13_out_0 : sw_at cf b_X13_out 0 l st P = sw_ex cf b_X13_out [sw_ld 2 0, sw_ld 0 1, sw_push (.int 0), sw_push (.int 255), sw_cs m_X13_isIn 3, sw_iz 1 1 [true, true, false], sw_push (.int 1), sw_goto 2 [true, true, false]] l st P := rfl
theorem at_X13_out_1 : sw_at cf b_X13_out 1 l st P = sw_ex cf b_X13_out [sw_push (.int 0), sw_goto 2 [true, true, false]] l st P := rfl
theorem at_X13_out_2 : sw_at cf b_X13_out 2 l st P = sw_ex cf b_X13_out [sw_push (.int 1), sw_cv 12 m_X13_start 2, sw_iz 0 3 [true, true, false], sw_push (.int 0), sw_rv 0] l st P := rfl
theorem at_X13_out_3 : sw_at cf b_X13_out 3 l st P = sw_ex cf b_X13_out [sw_ld 2 0, sw_gf 12 1, sw_gf 13 4, sw_sti 2, sw_ld 2 0, sw_gf 12 1, sw_ld 0 1, sw_pf 13 4 0, sw_ld 0 2, sw_rv 0] l st P := rfl
theorem M_X13_meant (d : Nat) (as : List Value) (P : sw_P) (h : sw_wd 2 as = true) : sw_Z (d + 1) m_X13_meant as P = sw_at (sw_Z d) b_X13_meant 0 (sw_en 2 as) [] P := if_pos h
theorem at_X13_meant_0 : sw_at cf b_X13_meant 0 l st P = sw_ex cf b_X13_meant [sw_ld 2 0, sw_ld 0 1, sw_cs m_X13_isNoVariable 1, sw_push (.int 1), sw_cv 12 m_X13_start 2, sw_iz 0 1 [true, true], sw_push (.int 0), sw_goto 2 [false, false]] l st P := rfl
theorem at_X13_meant_1 : sw_at cf b_X13_meant 1 l st P = sw_ex cf b_X13_meant [sw_ld 2 0, sw_gf 12 1, sw_cv 13 m_X14_meant 0, sw_ld 0 1, sw_ald 64, sw_goto 2 [false, false]] l st P := rfl
theorem at_X13_meant_2 : sw_at cf b_X13_meant 2 l st P = sw_ex cf b_X13_meant [sw_rv 0] l st P := rfl
theorem M_X13_chosen (d : Nat) (as : List Value) (P : sw_P) (h : sw_wd 4 as = true) : sw_Z (d + 1) m_X13_chosen as P = sw_at (sw_Z d) b_X13_chosen 0 (sw_en 4 as) [] P := if_pos h
theorem at_X13_chosen_0 : sw_at cf b_X13_chosen 0 l st P = sw_ex cf b_X13_chosen [sw_ld 2 0, sw_cv 12 m_X13_plan 0, sw_sta 3, sw_ld 2 0, sw_ld 0 1, sw_push (.int 0), sw_ld 2 3, sw_gf 18 2, sw_cv 24 m_J2_size 0, sw_push (.int 1), sw_ii (fun x y => x - y), sw_cs m_X13_isIn 3, sw_iz 1 1 [true, true, true, true], sw_push (.int 1), sw_goto 2 [true, true, true, true]] l st P := rfl
theorem at_X13_chosen_1 : sw_at cf b_X13_chosen 1 l st P = sw_ex cf b_X13_chosen [sw_push (.int 0), sw_goto 2 [true, true, true, true]] l st P := rfl
theorem at_X13_chosen_2 : sw_at cf b_X13_chosen 2 l st P = sw_ex cf b_X13_chosen [sw_push (.int 1), sw_cv 12 m_X13_start 2, sw_iz 1 5 [false, false, false, false], sw_ld 2 0, sw_ld 0 2, sw_push (.int 0), sw_push (.int 7), sw_cs m_X13_isIn 3, sw_iz 1 3 [false, true, true, true], sw_push (.int 1), sw_goto 4 [false, true, true, true]] l st P := rfl
theorem at_X13_chosen_3 : sw_at cf b_X13_chosen 3 l st P = sw_ex cf b_X13_chosen [sw_push (.int 0), sw_goto 4 [false, true, true, true]] l st P := rfl
theorem at_X13_chosen_4 : sw_at cf b_X13_chosen 4 l st P = sw_ex cf b_X13_chosen [sw_push (.int 2), sw_cv 12 m_X13_refuse 2, sw_iz 0 6 [false, true, true, true], sw_goto 5 [false, false, false, false]] l st P := rfl
theorem at_X13_chosen_5 : sw_at cf b_X13_chosen 5 l st P = sw_ex cf b_X13_chosen [sw_push (.int 0), sw_goto 7 [false, false, false, false]] l st P := rfl
theorem at_X13_chosen_6 : sw_at cf b_X13_chosen 6 l st P = sw_ex cf b_X13_chosen [sw_ld 2 3, sw_gf 18 2, sw_ld 0 1, sw_cv 24 m_J2_get 1, sw_ct [20], sw_ld 0 2, sw_cs m_X13_told 2, sw_goto 7 [false, false, false, false]] l st P := rfl
theorem at_X13_chosen_7 : sw_at cf b_X13_chosen 7 l st P = sw_ex cf b_X13_chosen [sw_rv 0] l st P := rfl
theorem M_X13_plan (d : Nat) (as : List Value) (P : sw_P) (h : sw_wd 1 as = true) : sw_Z (d + 1) m_X13_plan as P = sw_at (sw_Z d) b_X13_plan 0 (sw_en 1 as) [] P := if_pos h
theorem at_X13_plan_0 : sw_at cf b_X13_plan 0 l st P = sw_ex cf b_X13_plan [sw_ld 2 0, sw_ld 2 0, sw_gf 12 2, sw_push (.int 1), sw_cv 12 m_X13_plan_2 2, sw_rv 2] l st P := rfl
theorem M_X13_plan_2 (d : Nat) (as : List Value) (P : sw_P) (h : sw_wd 3 as = true) : sw_Z (d + 1) m_X13_plan_2 as P = sw_at (sw_Z d) b_X13_plan_2 0 (sw_en 3 as) [] P := if_pos h
theorem at_X13_plan_2_0 : sw_at cf b_X13_plan_2 0 l st P = sw_ex cf b_X13_plan_2 [sw_nw 18 [.null, .null, .null, .null, .null, .null, .int 0, .null, .int 0, .int 0, .int 0, .null, .null, .null], sw_dup, sw_ld 2 0, sw_gf 12 1, sw_ld 2 1, sw_ld 0 2, sw_ci m_X19_init 3, sw_rv 2] l st P := rfl
theorem M_X13_has (d : Nat) (as : List Value) (P : sw_P) (h : sw_wd 2 as = true) : sw_Z (d + 1) m_X13_has as P = sw_at (sw_Z d) b_X13_has 0 (sw_en 2 as) [] P := if_pos h
theorem at_X13_has_0 : sw_at cf b_X13_has 0 l st P = sw_ex cf b_X13_has [sw_ld 0 0, sw_ld 0 1, sw_ii (fun x y => x >>> (y &&& 31)), sw_push (.int 1), sw_ii (fun x y => x &&& y), sw_push (.int 1), sw_ic 1 1 [false, false], sw_push (.int 1), sw_goto 2 [false, false]] l st P := rfl
theorem at_X13_has_1 : sw_at cf b_X13_has 1 l st P = sw_ex cf b_X13_has [sw_push (.int 0), sw_goto 2 [false, false]] l st P := rfl
theorem at_X13_has_2 : sw_at cf b_X13_has 2 l st P = sw_ex cf b_X13_has [sw_rv 1] l st P := rfl
theorem M_X13_told (d : Nat) (as : List Value) (P : sw_P) (h : sw_wd 4 as = true) : sw_Z (d + 1) m_X13_told as P = sw_at (sw_Z d) b_X13_told 0 (sw_en 4 as) [] P := if_pos h
theorem at_X13_told_0 : sw_at cf b_X13_told 0 l st P = sw_ex cf b_X13_told [sw_push (.int 3), sw_na 64, sw_dup, sw_push (.int 0), sw_push (.int (-1)), sw_ast 64, sw_dup, sw_push (.int 1), sw_push (.int (-1)), sw_ast 64, sw_dup, sw_push (.int 2), sw_push (.int (-1)), sw_ast 64, sw_sta 2, sw_ld 2 0, sw_gf 20 2, sw_push (.int 0), sw_ld 2 2, sw_push (.int 0), sw_ld 2 0, sw_gf 20 2, sw_al, sw_cp 64, sw_push (.int 8), sw_na 64, sw_dup, sw_push (.int 0), sw_ld 2 0, sw_gf 20 0, sw_ast 64, sw_dup, sw_push (.int 1), sw_ld 2 0, sw_gf 20 1, sw_ast 64, sw_dup, sw_push (.int 2), sw_ld 2 2, sw_push (.int 0), sw_ald 64, sw_ast 64, sw_dup, sw_push (.int 3), sw_ld 2 2, sw_push (.int 1), sw_ald 64, sw_ast 64, sw_dup, sw_push (.int 4), sw_ld 2 2, sw_push (.int 2), sw_ald 64, sw_ast 64, sw_dup, sw_push (.int 5), sw_ld 2 0, sw_gf 20 3, sw_ast 64, sw_dup, sw_push (.int 6), sw_ld 2 0, sw_gf 20 4, sw_ast 64, sw_dup, sw_push (.int 7), sw_ld 2 0, sw_gf 20 5, sw_ast 64, sw_sta 3, sw_ld 2 3, sw_ld 0 1, sw_ald 64, sw_rv 0] l st P := rfl
theorem M_X13_ofValue (d : Nat) (as : List Value) (P : sw_P) (h : sw_wd 4 as = true) : sw_Z (d + 1) m_X13_ofValue as P = sw_at (sw_Z d) b_X13_ofValue 0 (sw_en 4 as) [] P := if_pos h
theorem at_X13_ofValue_0 : sw_at cf b_X13_ofValue 0 l st P = sw_ex cf b_X13_ofValue [sw_ld 2 0, sw_cv 12 m_X13_plan 0, sw_sta 3, sw_ld 2 0, sw_ld 0 1, sw_push (.int 0), sw_ld 2 3, sw_gf 18 3, sw_al, sw_push (.int 1), sw_ii (fun x y => x - y), sw_cs m_X13_isIn 3, sw_iz 0 1 [true, true, true, true], sw_ld 2 3, sw_gf 18 3, sw_ld 0 1, sw_ald 68, sw_cv 21 m_X22_isIn 0, sw_iz 1 2 [true, true, true, true], sw_goto 1 [true, true, true, true]] l st P := rfl
theorem at_X13_ofValue_1 : sw_at cf b_X13_ofValue 1 l st P = sw_ex cf b_X13_ofValue [sw_push (.int 1), sw_goto 3 [true, true, true, true]] l st P := rfl
theorem at_X13_ofValue_2 : sw_at cf b_X13_ofValue 2 l st P = sw_ex cf b_X13_ofValue [sw_push (.int 0), sw_goto 3 [true, true, true, true]] l st P := rfl
theorem at_X13_ofValue_3 : sw_at cf b_X13_ofValue 3 l st P = sw_ex cf b_X13_ofValue [sw_push (.int 1), sw_cv 12 m_X13_start 2, sw_iz 1 6 [false, false, false, false], sw_ld 2 0, sw_ld 0 2, sw_push (.int 0), sw_push (.int 7), sw_cs m_X13_isIn 3, sw_iz 1 4 [false, true, true, true], sw_push (.int 1), sw_goto 5 [false, true, true, true]] l st P := rfl
theorem at_X13_ofValue_4 : sw_at cf b_X13_ofValue 4 l st P = sw_ex cf b_X13_ofValue [sw_push (.int 0), sw_goto 5 [false, true, true, true]] l st P := rfl
theorem at_X13_ofValue_5 : sw_at cf b_X13_ofValue 5 l st P = sw_ex cf b_X13_ofValue [sw_push (.int 2), sw_cv 12 m_X13_refuse 2, sw_iz 0 7 [false, true, true, true], sw_goto 6 [false, false, false, false]] l st P := rfl
theorem at_X13_ofValue_6 : sw_at cf b_X13_ofValue 6 l st P = sw_ex cf b_X13_ofValue [sw_push (.int 0), sw_goto 8 [false, false, false, false]] l st P := rfl
theorem at_X13_ofValue_7 : sw_at cf b_X13_ofValue 7 l st P = sw_ex cf b_X13_ofValue [sw_ld 2 3, sw_gf 18 3, sw_ld 0 1, sw_ald 68, sw_ld 0 2, sw_cs m_X13_told_2 2, sw_goto 8 [false, false, false, false]] l st P := rfl
theorem at_X13_ofValue_8 : sw_at cf b_X13_ofValue 8 l st P = sw_ex cf b_X13_ofValue [sw_rv 0] l st P := rfl
theorem M_X13_told_2 (d : Nat) (as : List Value) (P : sw_P) (h : sw_wd 3 as = true) : sw_Z (d + 1) m_X13_told_2 as P = sw_at (sw_Z d) b_X13_told_2 0 (sw_en 3 as) [] P := if_pos h
theorem at_X13_told_2_0 : sw_at cf b_X13_told_2 0 l st P = sw_ex cf b_X13_told_2 [sw_push (.int 8), sw_na 64, sw_dup, sw_push (.int 0), sw_ld 2 0, sw_gf 21 1, sw_ast 64, sw_dup, sw_push (.int 1), sw_ld 2 0, sw_gf 21 2, sw_ast 64, sw_dup, sw_push (.int 2), sw_ld 2 0, sw_gf 21 4, sw_ast 64, sw_dup, sw_push (.int 3), sw_ld 2 0, sw_gf 21 6, sw_ast 64, sw_dup, sw_push (.int 4), sw_ld 2 0, sw_gf 21 7, sw_ast 64, sw_dup, sw_push (.int 5), sw_ld 2 0, sw_cv 21 m_X22_isSpilled 0, sw_iz 0 1 [true, true, false], sw_ld 2 0, sw_gf 21 8, sw_iz 0 1 [true, true, false], sw_push (.int 1), sw_goto 2 [true, true, false]] l st P := rfl
theorem at_X13_told_2_1 : sw_at cf b_X13_told_2 1 l st P = sw_ex cf b_X13_told_2 [sw_push (.int 0), sw_goto 2 [true, true, false]] l st P := rfl
theorem at_X13_told_2_2 : sw_at cf b_X13_told_2 2 l st P = sw_ex cf b_X13_told_2 [sw_ast 64, sw_dup, sw_push (.int 6), sw_ld 2 0, sw_gf 21 5, sw_ast 64, sw_dup, sw_push (.int 7), sw_ld 2 0, sw_gf 21 3, sw_ast 64, sw_sta 2, sw_ld 2 2, sw_ld 0 1, sw_ald 64, sw_rv 0] l st P := rfl
theorem M_X13_mapAt (d : Nat) (as : List Value) (P : sw_P) (h : sw_wd 4 as = true) : sw_Z (d + 1) m_X13_mapAt as P = sw_at (sw_Z d) b_X13_mapAt 0 (sw_en 4 as) [] P := if_pos h
theorem at_X13_mapAt_0 : sw_at cf b_X13_mapAt 0 l st P = sw_ex cf b_X13_mapAt [sw_ld 2 0, sw_cv 12 m_X13_plan 0, sw_sta 3, sw_ld 2 0, sw_ld 0 1, sw_push (.int 0), sw_ld 2 3, sw_gf 18 5, sw_cv 24 m_J2_size 0, sw_push (.int 1), sw_ii (fun x y => x - y), sw_cs m_X13_isIn 3, sw_iz 1 1 [true, true, true, true], sw_push (.int 1), sw_goto 2 [true, true, true, true]] l st P := rfl
theorem at_X13_mapAt_1 : sw_at cf b_X13_mapAt 1 l st P = sw_ex cf b_X13_mapAt [sw_push (.int 0), sw_goto 2 [true, true, true, true]] l st P := rfl
theorem at_X13_mapAt_2 : sw_at cf b_X13_mapAt 2 l st P = sw_ex cf b_X13_mapAt [sw_push (.int 1), sw_cv 12 m_X13_start 2, sw_iz 1 5 [false, false, false, false], sw_ld 2 0, sw_ld 0 2, sw_push (.int 0), sw_push (.int 3), sw_cs m_X13_isIn 3, sw_iz 1 3 [false, true, true, true], sw_push (.int 1), sw_goto 4 [false, true, true, true]] l st P := rfl
theorem at_X13_mapAt_3 : sw_at cf b_X13_mapAt 3 l st P = sw_ex cf b_X13_mapAt [sw_push (.int 0), sw_goto 4 [false, true, true, true]] l st P := rfl
theorem at_X13_mapAt_4 : sw_at cf b_X13_mapAt 4 l st P = sw_ex cf b_X13_mapAt [sw_push (.int 2), sw_cv 12 m_X13_refuse 2, sw_iz 0 6 [false, true, true, true], sw_goto 5 [false, false, false, false]] l st P := rfl
theorem at_X13_mapAt_5 : sw_at cf b_X13_mapAt 5 l st P = sw_ex cf b_X13_mapAt [sw_push (.int 0), sw_goto 7 [false, false, false, false]] l st P := rfl
theorem at_X13_mapAt_6 : sw_at cf b_X13_mapAt 6 l st P = sw_ex cf b_X13_mapAt [sw_ld 2 3, sw_ld 0 1, sw_ld 0 2, sw_cs m_X13_mapOf 3, sw_goto 7 [false, false, false, false]] l st P := rfl
theorem at_X13_mapAt_7 : sw_at cf b_X13_mapAt 7 l st P = sw_ex cf b_X13_mapAt [sw_rv 0] l st P := rfl
theorem M_X13_mapOf (d : Nat) (as : List Value) (P : sw_P) (h : sw_wd 7 as = true) : sw_Z (d + 1) m_X13_mapOf as P = sw_at (sw_Z d) b_X13_mapOf 0 (sw_en 7 as) [] P := if_pos h
theorem at_X13_mapOf_0 : sw_at cf b_X13_mapOf 0 l st P = sw_ex cf b_X13_mapOf [sw_ld 2 0, sw_gf 18 5, sw_ld 0 1, sw_cv 24 m_J2_get 1, sw_ct [41], sw_cv 41 m_J19_intValue 0, sw_sti 3, sw_ld 0 2, sw_iz 1 1 [true, false, true, true, false, false, false], sw_ld 0 3, sw_rv 0] l st P := rfl
theorem at_X13_mapOf_1 : sw_at cf b_X13_mapOf 1 l st P = sw_ex cf b_X13_mapOf [sw_push (.int 0), sw_sti 4, sw_ld 2 0, sw_gf 18 4, sw_cv 24 m_J2_iterator 0, sw_sta 5, sw_goto 2 [false, false, true, true, true, true, false]] l st P := rfl
theorem at_X13_mapOf_2 : sw_at cf b_X13_mapOf 2 l st P = sw_ex cf b_X13_mapOf [sw_ld 2 5, sw_cv 25 m_J23_hasNext 0, sw_iz 0 7 [false, false, false, false, true, false, false], sw_ld 2 5, sw_cv 25 m_J23_next 0, sw_ct [21], sw_sta 6, sw_ld 2 6, sw_ld 0 3, sw_cv 21 m_X22_goesOver 1, sw_iz 1 3 [false, false, true, true, true, true, true], sw_goto 2 [false, false, true, true, true, true, false]] l st P := rfl
theorem at_X13_mapOf_3 : sw_at cf b_X13_mapOf 3 l st P = sw_ex cf b_X13_mapOf [sw_ld 0 2, sw_push (.int 1), sw_ic 1 4 [false, false, true, true, true, true, true], sw_ld 2 6, sw_gf 21 6, sw_push (.int (-1)), sw_ic 0 4 [false, false, true, true, true, true, true], sw_ld 0 4, sw_push (.int 1), sw_ld 2 6, sw_gf 21 6, sw_ii (fun x y => x <<< (y &&& 31)), sw_ii (fun x y => x ||| y), sw_sti 4, sw_goto 4 [false, false, true, true, true, true, true]] l st P := rfl
theorem at_X13_mapOf_4 : sw_at cf b_X13_mapOf 4 l st P = sw_ex cf b_X13_mapOf [sw_ld 0 2, sw_push (.int 2), sw_ic 1 5 [false, false, true, true, true, true, true], sw_ld 2 6, sw_gf 21 7, sw_push (.int (-1)), sw_ic 0 5 [false, false, true, true, true, true, true], sw_ld 0 4, sw_push (.int 1), sw_ld 2 6, sw_gf 21 7, sw_ii (fun x y => x <<< (y &&& 31)), sw_ii (fun x y => x ||| y), sw_sti 4, sw_goto 5 [false, false, true, true, true, true, true]] l st P := rfl
theorem at_X13_mapOf_5 : sw_at cf b_X13_mapOf 5 l st P = sw_ex cf b_X13_mapOf [sw_ld 0 2, sw_push (.int 3), sw_ic 1 6 [false, false, true, true, true, true, false], sw_ld 2 6, sw_cv 21 m_X22_isSpilled 0, sw_iz 0 6 [false, false, true, true, true, true, false], sw_ld 2 6, sw_gf 21 8, sw_iz 0 6 [false, false, true, true, true, true, false], sw_inc 4 1, sw_goto 6 [false, false, true, true, true, true, false]] l st P := rfl
theorem at_X13_mapOf_6 : sw_at cf b_X13_mapOf 6 l st P = sw_ex cf b_X13_mapOf [sw_goto 2 [false, false, true, true, true, true, false]] l st P := rfl
theorem at_X13_mapOf_7 : sw_at cf b_X13_mapOf 7 l st P = sw_ex cf b_X13_mapOf [sw_ld 0 4, sw_rv 0] l st P := rfl
theorem M_X13_cost (d : Nat) (as : List Value) (P : sw_P) (h : sw_wd 2 as = true) : sw_Z (d + 1) m_X13_cost as P = sw_at (sw_Z d) b_X13_cost 0 (sw_en 2 as) [] P := if_pos h
theorem at_X13_cost_0 : sw_at cf b_X13_cost 0 l st P = sw_ex cf b_X13_cost [sw_ld 2 0, sw_ld 2 0, sw_ld 0 1, sw_cv 12 m_X13_isNoNode 1, sw_push (.int 1), sw_cv 12 m_X13_start 2, sw_iz 0 1 [true, true], sw_push (.int 0), sw_goto 2 [false, false]] l st P := rfl
theorem at_X13_cost_1 : sw_at cf b_X13_cost 1 l st P = sw_ex cf b_X13_cost [sw_nw 19 [.null, .null, .null, .int 0, .null, .int 0, .int 0], sw_dup, sw_ld 2 0, sw_gf 12 1, sw_ld 2 0, sw_gf 12 2, sw_push (.int 1), sw_ci m_X20_init 3, sw_ld 0 1, sw_cv 19 m_X20_cost 1, sw_goto 2 [false, false]] l st P := rfl
theorem at_X13_cost_2 : sw_at cf b_X13_cost 2 l st P = sw_ex cf b_X13_cost [sw_rv 0] l st P := rfl
theorem M_X13_code (d : Nat) (as : List Value) (P : sw_P) (h : sw_wd 4 as = true) : sw_Z (d + 1) m_X13_code as P = sw_at (sw_Z d) b_X13_code 0 (sw_en 4 as) [] P := if_pos h
theorem at_X13_code_0 : sw_at cf b_X13_code 0 l st P = sw_ex cf b_X13_code [sw_ld 2 0, sw_cv 12 m_X13_plan 0, sw_sta 3, sw_ld 2 0, sw_ld 0 1, sw_push (.int 0), sw_ld 2 3, sw_gf 18 7, sw_cv 24 m_J2_size 0, sw_push (.int 1), sw_ii (fun x y => x - y), sw_cs m_X13_isIn 3, sw_iz 1 1 [true, true, true, true], sw_push (.int 1), sw_goto 2 [true, true, true, true]] l st P := rfl
theorem at_X13_code_1 : sw_at cf b_X13_code 1 l st P = sw_ex cf b_X13_code [sw_push (.int 0), sw_goto 2 [true, true, true, true]] l st P := rfl
theorem at_X13_code_2 : sw_at cf b_X13_code 2 l st P = sw_ex cf b_X13_code [sw_push (.int 1), sw_cv 12 m_X13_start 2, sw_iz 1 5 [false, false, false, false], sw_ld 2 0, sw_ld 0 2, sw_push (.int 0), sw_push (.int 5), sw_cs m_X13_isIn 3, sw_iz 1 3 [false, true, true, true], sw_push (.int 1), sw_goto 4 [false, true, true, true]] l st P := rfl
theorem at_X13_code_3 : sw_at cf b_X13_code 3 l st P = sw_ex cf b_X13_code [sw_push (.int 0), sw_goto 4 [false, true, true, true]] l st P := rfl
theorem at_X13_code_4 : sw_at cf b_X13_code 4 l st P = sw_ex cf b_X13_code [sw_push (.int 2), sw_cv 12 m_X13_refuse 2, sw_iz 0 6 [false, true, true, true], sw_goto 5 [false, false, false, false]] l st P := rfl
theorem at_X13_code_5 : sw_at cf b_X13_code 5 l st P = sw_ex cf b_X13_code [sw_push (.int 0), sw_goto 7 [false, false, false, false]] l st P := rfl
theorem at_X13_code_6 : sw_at cf b_X13_code 6 l st P = sw_ex cf b_X13_code [sw_ld 2 3, sw_gf 18 7, sw_ld 0 1, sw_cv 24 m_J2_get 1, sw_ct [64], sw_ld 0 2, sw_ald 64, sw_goto 7 [false, false, false, false]] l st P := rfl
theorem at_X13_code_7 : sw_at cf b_X13_code 7 l st P = sw_ex cf b_X13_code [sw_rv 0] l st P := rfl
theorem M_X13_begins (d : Nat) (as : List Value) (P : sw_P) (h : sw_wd 3 as = true) : sw_Z (d + 1) m_X13_begins as P = sw_at (sw_Z d) b_X13_begins 0 (sw_en 3 as) [] P := if_pos h
theorem at_X13_begins_0 : sw_at cf b_X13_begins 0 l st P = sw_ex cf b_X13_begins [sw_ld 2 0, sw_cv 12 m_X13_plan 0, sw_sta 2, sw_ld 2 0, sw_ld 0 1, sw_push (.int 0), sw_ld 2 2, sw_gf 18 7, sw_cv 24 m_J2_size 0, sw_push (.int 1), sw_ii (fun x y => x - y), sw_cs m_X13_isIn 3, sw_iz 1 1 [false, true, true], sw_push (.int 1), sw_goto 2 [false, true, true]] l st P := rfl
theorem at_X13_begins_1 : sw_at cf b_X13_begins 1 l st P = sw_ex cf b_X13_begins [sw_push (.int 0), sw_goto 2 [false, true, true]] l st P := rfl
theorem at_X13_begins_2 : sw_at cf b_X13_begins 2 l st P = sw_ex cf b_X13_begins [sw_push (.int 1), sw_cv 12 m_X13_start 2, sw_iz 0 3 [false, true, true], sw_push (.int 0), sw_goto 4 [false, false, false]] l st P := rfl
theorem at_X13_begins_3 : sw_at cf b_X13_begins 3 l st P = sw_ex cf b_X13_begins [sw_ld 2 2, sw_gf 18 13, sw_ld 0 1, sw_ald 64, sw_goto 4 [false, false, false]] l st P := rfl
theorem at_X13_begins_4 : sw_at cf b_X13_begins 4 l st P = sw_ex cf b_X13_begins [sw_rv 0] l st P := rfl
theorem M_X13_answer (d : Nat) (as : List Value) (P : sw_P) (h : sw_wd 2 as = true) : sw_Z (d + 1) m_X13_answer as P = sw_at (sw_Z d) b_X13_answer 0 (sw_en 2 as) [] P := if_pos h
theorem at_X13_answer_0 : sw_at cf b_X13_answer 0 l st P = sw_ex cf b_X13_answer [sw_ld 2 0, sw_ld 0 1, sw_cs m_X13_isNoVariable 1, sw_iz 1 1 [true, true], sw_ld 2 0, sw_gf 12 1, sw_gf 13 4, sw_ld 0 1, sw_cs m_X13_has 2, sw_iz 1 2 [true, true], sw_goto 1 [true, true]] l st P := rfl
theorem at_X13_answer_1 : sw_at cf b_X13_answer 1 l st P = sw_ex cf b_X13_answer [sw_push (.int 1), sw_goto 3 [true, true]] l st P := rfl
theorem at_X13_answer_2 : sw_at cf b_X13_answer 2 l st P = sw_ex cf b_X13_answer [sw_push (.int 0), sw_goto 3 [true, true]] l st P := rfl
theorem at_X13_answer_3 : sw_at cf b_X13_answer 3 l st P = sw_ex cf b_X13_answer [sw_push (.int 1), sw_cv 12 m_X13_start 2, sw_iz 0 4 [true, true], sw_push (.int 0), sw_goto 5 [false, false]] l st P := rfl
theorem at_X13_answer_4 : sw_at cf b_X13_answer 4 l st P = sw_ex cf b_X13_answer [sw_ld 2 0, sw_cv 12 m_X13_plan 0, sw_ld 0 1, sw_cv 18 m_X19_answer 1, sw_goto 5 [false, false]] l st P := rfl
theorem at_X13_answer_5 : sw_at cf b_X13_answer 5 l st P = sw_ex cf b_X13_answer [sw_rv 0] l st P := rfl
theorem M_X13_many (d : Nat) (as : List Value) (P : sw_P) (h : sw_wd 2 as = true) : sw_Z (d + 1) m_X13_many as P = sw_at (sw_Z d) b_X13_many 0 (sw_en 2 as) [] P := if_pos h
theorem at_X13_many_0 : sw_at cf b_X13_many 0 l st P = sw_ex cf b_X13_many [sw_ld 2 0, sw_ld 0 1, sw_push (.int 0), sw_push (.int 15), sw_cs m_X13_isIn 3, sw_iz 1 1 [true, true], sw_push (.int 1), sw_goto 2 [true, true]] l st P := rfl
theorem at_X13_many_1 : sw_at cf b_X13_many 1 l st P = sw_ex cf b_X13_many [sw_push (.int 0), sw_goto 2 [true, true]] l st P := rfl
theorem at_X13_many_2 : sw_at cf b_X13_many 2 l st P = sw_ex cf b_X13_many [sw_push (.int 1), sw_cv 12 m_X13_start 2, sw_iz 0 3 [true, true], sw_push (.int 0), sw_goto 4 [false, false]] l st P := rfl
theorem at_X13_many_3 : sw_at cf b_X13_many 3 l st P = sw_ex cf b_X13_many [sw_ld 2 0, sw_ld 2 0, sw_cv 12 m_X13_plan 0, sw_ld 0 1, sw_cv 12 m_X13_count 2, sw_goto 4 [false, false]] l st P := rfl
theorem at_X13_many_4 : sw_at cf b_X13_many 4 l st P = sw_ex cf b_X13_many [sw_rv 0] l st P := rfl
theorem M_X13_count (d : Nat) (as : List Value) (P : sw_P) (h : sw_wd 6 as = true) : sw_Z (d + 1) m_X13_count as P = sw_at (sw_Z d) b_X13_count 0 (sw_en 6 as) [] P := if_pos h
theorem at_X13_count_0 : sw_at cf b_X13_count 0 l st P = sw_ex cf b_X13_count [sw_ld 0 2, sw_iz 1 1 [true, true, true, false, false, false], sw_ld 2 0, sw_gf 12 1, sw_gf 13 0, sw_cv 24 m_J2_size 0, sw_rv 0] l st P := rfl
theorem at_X13_count_1 : sw_at cf b_X13_count 1 l st P = sw_ex cf b_X13_count [sw_ld 0 2, sw_push (.int 2), sw_ic 1 2 [true, true, true, false, false, false], sw_ld 2 0, sw_cv 12 m_X13_statements 0, sw_rv 0] l st P := rfl
theorem at_X13_count_2 : sw_at cf b_X13_count 2 l st P = sw_ex cf b_X13_count [sw_ld 0 2, sw_push (.int 2), sw_ic 5 3 [true, false, false, false, false, false], sw_ld 2 1, sw_ld 0 2, sw_cv 18 m_X19_told 1, sw_rv 0] l st P := rfl
theorem at_X13_count_3 : sw_at cf b_X13_count 3 l st P = sw_ex cf b_X13_count [sw_push (.int 0), sw_sti 3, sw_ld 2 0, sw_gf 12 1, sw_gf 13 0, sw_cv 24 m_J2_iterator 0, sw_sta 4, sw_goto 4 [false, false, false, true, true, false]] l st P := rfl
theorem at_X13_count_4 : sw_at cf b_X13_count 4 l st P = sw_ex cf b_X13_count [sw_ld 2 4, sw_cv 25 m_J23_hasNext 0, sw_iz 0 7 [false, false, false, true, false, false], sw_ld 2 4, sw_cv 25 m_J23_next 0, sw_ct [16], sw_sta 5, sw_ld 0 3, sw_ld 2 5, sw_gf 16 3, sw_iz 0 5 [false, false, false, false, true, false], sw_push (.int 0), sw_goto 6 [false, false, false, false, true, false]] l st P := rfl
theorem at_X13_count_5 : sw_at cf b_X13_count 5 l st P = sw_ex cf b_X13_count [sw_push (.int 1), sw_goto 6 [false, false, false, false, true, false]] l st P := rfl
theorem at_X13_count_6 : sw_at cf b_X13_count 6 l st P = sw_ex cf b_X13_count [sw_ii (fun x y => x + y), sw_sti 3, sw_goto 4 [false, false, false, true, true, false]] l st P := rfl
theorem at_X13_count_7 : sw_at cf b_X13_count 7 l st P = sw_ex cf b_X13_count [sw_ld 0 3, sw_rv 0] l st P := rfl
theorem M_X13_meanStall (d : Nat) (as : List Value) (P : sw_P) (h : sw_wd 2 as = true) : sw_Z (d + 1) m_X13_meanStall as P = sw_at (sw_Z d) b_X13_meanStall 0 (sw_en 2 as) [] P := if_pos h
theorem at_X13_meanStall_0 : sw_at cf b_X13_meanStall 0 l st P = sw_ex cf b_X13_meanStall [sw_ld 2 0, sw_push (.int 0), sw_pf 12 0 0, sw_ld 2 0, sw_cv 12 m_X13_plan 0, sw_sta 1, sw_ld 2 1, sw_gf 18 8, sw_iz 1 1 [false, true], sw_push (.double 0), sw_goto 2 [false, false]] l st P := rfl
theorem at_X13_meanStall_1 : sw_at cf b_X13_meanStall 1 l st P = sw_ex cf b_X13_meanStall [sw_ld 2 1, sw_gf 18 10, sw_i2d, sw_ld 2 1, sw_gf 18 8, sw_i2d, sw_dd, sw_goto 2 [false, false]] l st P := rfl
theorem at_X13_meanStall_2 : sw_at cf b_X13_meanStall 2 l st P = sw_ex cf b_X13_meanStall [sw_rv 4] l st P := rfl
theorem M_X13_with (d : Nat) (as : List Value) (P : sw_P) (h : sw_wd 5 as = true) : sw_Z (d + 1) m_X13_with as P = sw_at (sw_Z d) b_X13_with 0 (sw_en 5 as) [] P := if_pos h
theorem at_X13_with_0 : sw_at cf b_X13_with 0 l st P = sw_ex cf b_X13_with [sw_ld 2 0, sw_ld 0 1, sw_ld 0 2, sw_cs m_X13_isNoMachine 2, sw_iz 1 1 [true, true, true, true, true], sw_ld 0 4, sw_push (.int 3), sw_push (.int 15), sw_cs m_X13_isIn 3, sw_iz 1 2 [true, true, true, true, true], sw_goto 1 [true, true, true, true, true]] l st P := rfl
theorem at_X13_with_1 : sw_at cf b_X13_with 1 l st P = sw_ex cf b_X13_with [sw_push (.int 1), sw_goto 3 [true, true, true, true, true]] l st P := rfl
theorem at_X13_with_2 : sw_at cf b_X13_with 2 l st P = sw_ex cf b_X13_with [sw_push (.int 0), sw_goto 3 [true, true, true, true, true]] l st P := rfl
theorem at_X13_with_3 : sw_at cf b_X13_with 3 l st P = sw_ex cf b_X13_with [sw_push (.int 1), sw_cv 12 m_X13_start 2, sw_iz 0 4 [true, true, true, true, true], sw_push (.int 0), sw_goto 5 [false, false, false, false, false]] l st P := rfl
theorem at_X13_with_4 : sw_at cf b_X13_with 4 l st P = sw_ex cf b_X13_with [sw_ld 2 0, sw_ld 0 1, sw_ld 0 2, sw_ld 0 3, sw_ld 0 4, sw_cv 12 m_X13_withNow 4, sw_goto 5 [false, false, false, false, false]] l st P := rfl
theorem at_X13_with_5 : sw_at cf b_X13_with 5 l st P = sw_ex cf b_X13_with [sw_rv 0] l st P := rfl
theorem M_X13_withNow (d : Nat) (as : List Value) (P : sw_P) (h : sw_wd 5 as = true) : sw_Z (d + 1) m_X13_withNow as P = sw_at (sw_Z d) b_X13_withNow 0 (sw_en 5 as) [] P := if_pos h
theorem at_X13_withNow_0 : sw_at cf b_X13_withNow 0 l st P = sw_ex cf b_X13_withNow [sw_ld 2 0, sw_nw 14 [.int 0, .int 0, .int 0, .int 0, .int 0], sw_dup, sw_ld 0 1, sw_ld 0 2, sw_ld 2 0, sw_gf 12 2, sw_gf 14 2, sw_ld 2 0, sw_gf 12 2, sw_gf 14 3, sw_ld 0 3, sw_ci m_X15_init 5, sw_push (.int 1), sw_cv 12 m_X13_plan_2 2, sw_ld 0 4, sw_cv 18 m_X19_told 1, sw_rv 0] l st P := rfl
theorem M_X13_cyclesWith (d : Nat) (as : List Value) (P : sw_P) (h : sw_wd 5 as = true) : sw_Z (d + 1) m_X13_cyclesWith as P = sw_at (sw_Z d) b_X13_cyclesWith 0 (sw_en 5 as) [] P := if_pos h
theorem at_X13_cyclesWith_0 : sw_at cf b_X13_cyclesWith 0 l st P = sw_ex cf b_X13_cyclesWith [sw_ld 2 0, sw_ld 0 1, sw_cs m_X13_isNoKind 1, sw_push (.int 1), sw_cv 12 m_X13_start 2, sw_iz 1 1 [false, false, false, false, false], sw_ld 2 0, sw_ld 0 2, sw_cs m_X13_isNoLatency 1, sw_push (.int 2), sw_cv 12 m_X13_refuse 2, sw_iz 0 2 [true, true, true, false, false], sw_goto 1 [false, false, false, false, false]] l st P := rfl
theorem at_X13_cyclesWith_1 : sw_at cf b_X13_cyclesWith 1 l st P = sw_ex cf b_X13_cyclesWith [sw_push (.int 0), sw_rv 0] l st P := rfl
theorem at_X13_cyclesWith_2 : sw_at cf b_X13_cyclesWith 2 l st P = sw_ex cf b_X13_cyclesWith [sw_ld 2 0, sw_gf 12 1, sw_gf 13 3, sw_ld 0 1, sw_ald 64, sw_sti 3, sw_ld 2 0, sw_gf 12 1, sw_gf 13 3, sw_ld 0 1, sw_ld 0 2, sw_ast 64, sw_ld 2 0, sw_cv 12 m_X13_plan 0, sw_gf 18 9, sw_sti 4, sw_ld 2 0, sw_gf 12 1, sw_gf 13 3, sw_ld 0 1, sw_ld 0 3, sw_ast 64, sw_ld 0 4, sw_rv 0] l st P := rfl
theorem M_X13_enough (d : Nat) (as : List Value) (P : sw_P) (h : sw_wd 1 as = true) : sw_Z (d + 1) m_X13_enough as P = sw_at (sw_Z d) b_X13_enough 0 (sw_en 1 as) [] P := if_pos h
theorem at_X13_enough_0 : sw_at cf b_X13_enough 0 l st P = sw_ex cf b_X13_enough [sw_ld 2 0, sw_push (.int 0), sw_pf 12 0 0, sw_ld 2 0, sw_cv 12 m_X13_enoughNow 0, sw_rv 0] l st P := rfl
theorem M_X13_enoughNow (d : Nat) (as : List Value) (P : sw_P) (h : sw_wd 3 as = true) : sw_Z (d + 1) m_X13_enoughNow as P = sw_at (sw_Z d) b_X13_enoughNow 0 (sw_en 3 as) [] P := if_pos h
theorem at_X13_enoughNow_0 : sw_at cf b_X13_enoughNow 0 l st P = sw_ex cf b_X13_enoughNow [sw_push (.int 5), sw_sti 1, sw_goto 1 [true, true, false]] l st P := rfl
theorem at_X13_enoughNow_1 : sw_at cf b_X13_enoughNow 1 l st P = sw_ex cf b_X13_enoughNow [sw_ld 0 1, sw_push (.int 11), sw_ic 4 3 [false, false, false], sw_ld 2 0, sw_gf 12 2, sw_gf 14 1, sw_push (.int 1), sw_ld 0 1, sw_push (.int 3), sw_ii (fun x y => x - y), sw_ii (fun x y => x <<< (y &&& 31)), sw_push (.int 1), sw_ii (fun x y => x - y), sw_ii (fun x y => x &&& y), sw_sti 2, sw_ld 2 0, sw_ld 0 1, sw_ld 0 2, sw_ld 2 0, sw_gf 12 2, sw_gf 14 4, sw_push (.int 5), sw_cv 12 m_X13_withNow 4, sw_iz 1 2 [true, true, false], sw_ld 0 1, sw_rv 0] l st P := rfl
theorem at_X13_enoughNow_2 : sw_at cf b_X13_enoughNow 2 l st P = sw_ex cf b_X13_enoughNow [sw_inc 1 1, sw_goto 1 [true, true, false]] l st P := rfl
theorem at_X13_enoughNow_3 : sw_at cf b_X13_enoughNow 3 l st P = sw_ex cf b_X13_enoughNow [sw_push (.int (-1)), sw_rv 0] l st P := rfl
theorem M_X13_unordered (d : Nat) (as : List Value) (P : sw_P) (h : sw_wd 1 as = true) : sw_Z (d + 1) m_X13_unordered as P = sw_at (sw_Z d) b_X13_unordered 0 (sw_en 1 as) [] P := if_pos h
theorem at_X13_unordered_0 : sw_at cf b_X13_unordered 0 l st P = sw_ex cf b_X13_unordered [sw_ld 2 0, sw_push (.int 0), sw_pf 12 0 0, sw_ld 2 0, sw_cv 12 m_X13_unorderedNow 0, sw_rv 0] l st P := rfl
theorem M_X13_unorderedNow (d : Nat) (as : List Value) (P : sw_P) (h : sw_wd 1 as = true) : sw_Z (d + 1) m_X13_unorderedNow as P = sw_at (sw_Z d) b_X13_unorderedNow 0 (sw_en 1 as) [] P := if_pos h
theorem at_X13_unorderedNow_0 : sw_at cf b_X13_unorderedNow 0 l st P = sw_ex cf b_X13_unorderedNow [sw_ld 2 0, sw_ld 2 0, sw_gf 12 2, sw_push (.int 0), sw_cv 12 m_X13_plan_2 2, sw_gf 18 9, sw_ld 2 0, sw_cv 12 m_X13_plan 0, sw_gf 18 9, sw_ii (fun x y => x - y), sw_rv 0] l st P := rfl
theorem M_X13_digest (d : Nat) (as : List Value) (P : sw_P) (h : sw_wd 9 as = true) : sw_Z (d + 1) m_X13_digest as P = sw_at (sw_Z d) b_X13_digest 0 (sw_en 9 as) [] P := if_pos h
theorem at_X13_digest_0 : sw_at cf b_X13_digest 0 l st P = sw_ex cf b_X13_digest [sw_ld 2 0, sw_push (.int 0), sw_pf 12 0 0, sw_ld 2 0, sw_cv 12 m_X13_plan 0, sw_sta 1, sw_push (.long 58132), sw_stl 2, sw_push (.int 0), sw_sti 4, sw_goto 1 [true, true, true, false, true, false, false, false, false]] l st P := rfl
theorem at_X13_digest_1 : sw_at cf b_X13_digest 1 l st P = sw_ex cf b_X13_digest [sw_ld 0 4, sw_push (.int 16), sw_ic 3 2 [true, true, true, false, false, false, false, false, false], sw_ld 3 2, sw_ld 2 0, sw_ld 2 1, sw_ld 0 4, sw_cv 12 m_X13_count 2, sw_i2l, sw_cs m_X13_add 2, sw_stl 2, sw_inc 4 1, sw_goto 1 [true, true, true, false, true, false, false, false, false]] l st P := rfl
theorem at_X13_digest_2 : sw_at cf b_X13_digest 2 l st P = sw_ex cf b_X13_digest [sw_ld 2 0, sw_gf 12 1, sw_cv 13 m_X14_meant 0, sw_sta 4, sw_ld 2 4, sw_al, sw_sti 5, sw_push (.int 0), sw_sti 6, sw_goto 3 [true, true, true, false, true, true, true, false, false]] l st P := rfl
theorem at_X13_digest_3 : sw_at cf b_X13_digest 3 l st P = sw_ex cf b_X13_digest [sw_ld 0 6, sw_ld 0 5, sw_ic 3 4 [true, true, true, false, false, false, false, false, false], sw_ld 2 4, sw_ld 0 6, sw_ald 64, sw_sti 7, sw_ld 3 2, sw_ld 0 7, sw_i2l, sw_cs m_X13_add 2, sw_stl 2, sw_inc 6 1, sw_goto 3 [true, true, true, false, true, true, true, false, false]] l st P := rfl
theorem at_X13_digest_4 : sw_at cf b_X13_digest 4 l st P = sw_ex cf b_X13_digest [sw_push (.int 0), sw_sti 4, sw_goto 5 [true, true, true, false, true, false, false, false, false]] l st P := rfl
theorem at_X13_digest_5 : sw_at cf b_X13_digest 5 l st P = sw_ex cf b_X13_digest [sw_ld 0 4, sw_push (.int 8), sw_ic 3 7 [true, true, true, false, false, false, false, false, false], sw_ld 2 0, sw_gf 12 1, sw_gf 13 4, sw_ld 0 4, sw_cs m_X13_has 2, sw_iz 0 6 [true, true, true, false, true, false, false, false, false], sw_ld 3 2, sw_ld 2 1, sw_ld 0 4, sw_cv 18 m_X19_answer 1, sw_i2l, sw_cs m_X13_add 2, sw_stl 2, sw_goto 6 [true, true, true, false, true, false, false, false, false]] l st P := rfl
theorem at_X13_digest_6 : sw_at cf b_X13_digest 6 l st P = sw_ex cf b_X13_digest [sw_inc 4 1, sw_goto 5 [true, true, true, false, true, false, false, false, false]] l st P := rfl
theorem at_X13_digest_7 : sw_at cf b_X13_digest 7 l st P = sw_ex cf b_X13_digest [sw_ld 2 1, sw_gf 18 2, sw_cv 24 m_J2_iterator 0, sw_sta 4, sw_goto 8 [true, true, true, false, true, false, false, false, false]] l st P := rfl
theorem at_X13_digest_8 : sw_at cf b_X13_digest 8 l st P = sw_ex cf b_X13_digest [sw_ld 2 4, sw_cv 25 m_J23_hasNext 0, sw_iz 0 11 [true, true, true, false, false, false, false, false, false], sw_ld 2 4, sw_cv 25 m_J23_next 0, sw_ct [20], sw_sta 5, sw_push (.int 0), sw_sti 6, sw_goto 9 [true, true, true, false, true, true, true, false, false]] l st P := rfl
theorem at_X13_digest_9 : sw_at cf b_X13_digest 9 l st P = sw_ex cf b_X13_digest [sw_ld 0 6, sw_push (.int 8), sw_ic 3 10 [true, true, true, false, true, false, false, false, false], sw_ld 3 2, sw_ld 2 5, sw_ld 0 6, sw_cs m_X13_told 2, sw_i2l, sw_cs m_X13_add 2, sw_stl 2, sw_inc 6 1, sw_goto 9 [true, true, true, false, true, true, true, false, false]] l st P := rfl
theorem at_X13_digest_10 : sw_at cf b_X13_digest 10 l st P = sw_ex cf b_X13_digest [sw_goto 8 [true, true, true, false, true, false, false, false, false]] l st P := rfl
theorem at_X13_digest_11 : sw_at cf b_X13_digest 11 l st P = sw_ex cf b_X13_digest [sw_ld 2 1, sw_gf 18 3, sw_sta 4, sw_ld 2 4, sw_al, sw_sti 5, sw_push (.int 0), sw_sti 6, sw_goto 12 [true, true, true, false, true, true, true, false, false]] l st P := rfl
theorem at_X13_digest_12 : sw_at cf b_X13_digest 12 l st P = sw_ex cf b_X13_digest [sw_ld 0 6, sw_ld 0 5, sw_ic 3 16 [true, true, true, false, false, false, false, false, false], sw_ld 2 4, sw_ld 0 6, sw_ald 68, sw_sta 7, sw_ld 2 7, sw_cv 21 m_X22_isIn 0, sw_iz 1 13 [true, true, true, false, true, true, true, true, false], sw_goto 15 [true, true, true, false, true, true, true, false, false]] l st P := rfl
theorem at_X13_digest_13 : sw_at cf b_X13_digest 13 l st P = sw_ex cf b_X13_digest [sw_ld 3 2, sw_ld 2 7, sw_gf 21 0, sw_i2l, sw_cs m_X13_add 2, sw_stl 2, sw_push (.int 0), sw_sti 8, sw_goto 14 [true, true, true, false, true, true, true, true, true]] l st P := rfl
theorem at_X13_digest_14 : sw_at cf b_X13_digest 14 l st P = sw_ex cf b_X13_digest [sw_ld 0 8, sw_push (.int 8), sw_ic 3 15 [true, true, true, false, true, true, true, false, false], sw_ld 3 2, sw_ld 2 7, sw_ld 0 8, sw_cs m_X13_told_2 2, sw_i2l, sw_cs m_X13_add 2, sw_stl 2, sw_inc 8 1, sw_goto 14 [true, true, true, false, true, true, true, true, true]] l st P := rfl
theorem at_X13_digest_15 : sw_at cf b_X13_digest 15 l st P = sw_ex cf b_X13_digest [sw_inc 6 1, sw_goto 12 [true, true, true, false, true, true, true, false, false]] l st P := rfl
theorem at_X13_digest_16 : sw_at cf b_X13_digest 16 l st P = sw_ex cf b_X13_digest [sw_push (.int 0), sw_sti 4, sw_goto 17 [true, true, true, false, true, false, false, false, false]] l st P := rfl
theorem at_X13_digest_17 : sw_at cf b_X13_digest 17 l st P = sw_ex cf b_X13_digest [sw_ld 0 4, sw_ld 2 1, sw_gf 18 5, sw_cv 24 m_J2_size 0, sw_ic 3 20 [true, true, true, false, false, false, false, false, false], sw_push (.int 0), sw_sti 5, sw_goto 18 [true, true, true, false, true, true, false, false, false]] l st P := rfl
theorem at_X13_digest_18 : sw_at cf b_X13_digest 18 l st P = sw_ex cf b_X13_digest [sw_ld 0 5, sw_push (.int 4), sw_ic 3 19 [true, true, true, false, true, false, false, false, false], sw_ld 3 2, sw_ld 2 1, sw_ld 0 4, sw_ld 0 5, sw_cs m_X13_mapOf 3, sw_i2l, sw_cs m_X13_add 2, sw_stl 2, sw_inc 5 1, sw_goto 18 [true, true, true, false, true, true, false, false, false]] l st P := rfl
theorem at_X13_digest_19 : sw_at cf b_X13_digest 19 l st P = sw_ex cf b_X13_digest [sw_inc 4 1, sw_goto 17 [true, true, true, false, true, false, false, false, false]] l st P := rfl
theorem at_X13_digest_20 : sw_at cf b_X13_digest 20 l st P = sw_ex cf b_X13_digest [sw_push (.int 0), sw_sti 4, sw_goto 21 [true, true, true, false, true, false, false, false, false]] l st P := rfl
theorem at_X13_digest_21 : sw_at cf b_X13_digest 21 l st P = sw_ex cf b_X13_digest [sw_ld 0 4, sw_ld 2 1, sw_gf 18 7, sw_cv 24 m_J2_size 0, sw_ic 3 24 [true, false, true, false, false, false, false, false, false], sw_ld 2 1, sw_gf 18 7, sw_ld 0 4, sw_cv 24 m_J2_get 1, sw_ct [64], sw_sta 5, sw_ld 2 5, sw_al, sw_sti 6, sw_push (.int 0), sw_sti 7, sw_goto 22 [true, true, true, false, true, true, true, true, false]] l st P := rfl
theorem at_X13_digest_22 : sw_at cf b_X13_digest 22 l st P = sw_ex cf b_X13_digest [sw_ld 0 7, sw_ld 0 6, sw_ic 3 23 [true, true, true, false, true, false, false, false, false], sw_ld 2 5, sw_ld 0 7, sw_ald 64, sw_sti 8, sw_ld 3 2, sw_ld 0 8, sw_i2l, sw_cs m_X13_add 2, sw_stl 2, sw_inc 7 1, sw_goto 22 [true, true, true, false, true, true, true, true, false]] l st P := rfl
theorem at_X13_digest_23 : sw_at cf b_X13_digest 23 l st P = sw_ex cf b_X13_digest [sw_ld 3 2, sw_ld 2 1, sw_gf 18 13, sw_ld 0 4, sw_ald 64, sw_i2l, sw_cs m_X13_add 2, sw_stl 2, sw_inc 4 1, sw_goto 21 [true, true, true, false, true, false, false, false, false]] l st P := rfl
theorem at_X13_digest_24 : sw_at cf b_X13_digest 24 l st P = sw_ex cf b_X13_digest [sw_ld 3 2, sw_ld 2 0, sw_cv 12 m_X13_enoughNow 0, sw_i2l, sw_cs m_X13_add 2, sw_ld 2 0, sw_cv 12 m_X13_unorderedNow 0, sw_i2l, sw_cs m_X13_add 2, sw_ld 2 0, sw_push (.int 6), sw_push (.int 4), sw_push (.int 1), sw_push (.int 9), sw_cv 12 m_X13_withNow 4, sw_i2l, sw_cs m_X13_add 2, sw_ld 2 0, sw_push (.int 6), sw_push (.int 4), sw_push (.int 1), sw_push (.int 13), sw_cv 12 m_X13_withNow 4, sw_i2l, sw_cs m_X13_add 2, sw_rv 3] l st P := rfl
theorem M_X13_add (d : Nat) (as : List Value) (P : sw_P) (h : sw_wd 4 as = true) : sw_Z (d + 1) m_X13_add as P = sw_at (sw_Z d) b_X13_add 0 (sw_en 4 as) [] P := if_pos h
theorem at_X13_add_0 : sw_at cf b_X13_add 0 l st P = sw_ex cf b_X13_add [sw_ld 3 0, sw_push (.long 31), sw_ll (fun x y => x * y), sw_ld 3 2, sw_ll (fun x y => x + y), sw_rv 3] l st P := rfl
theorem M_X14_init (d : Nat) (as : List Value) (P : sw_P) (h : sw_wd 2 as = true) : sw_Z (d + 1) m_X14_init as P = sw_at (sw_Z d) b_X14_init 0 (sw_en 2 as) [] P := if_pos h
theorem at_X14_init_0 : sw_at cf b_X14_init 0 l st P = sw_ex cf b_X14_init [sw_ld 2 0, sw_oin, sw_ld 2 0, sw_nw 24 [.int 0, .null, .int 0], sw_dup, sw_ci m_J2_init 0, sw_pf 13 0 2, sw_ld 2 0, sw_nw 24 [.int 0, .null, .int 0], sw_dup, sw_ci m_J2_init 0, sw_pf 13 1 2, sw_ld 2 0, sw_push (.int 4), sw_na 64, sw_dup, sw_push (.int 0), sw_push (.int 1), sw_ast 64, sw_dup, sw_push (.int 1), sw_push (.int 1), sw_ast 64, sw_dup, sw_push (.int 2), sw_push (.int 1), sw_ast 64, sw_dup, sw_push (.int 3), sw_push (.int 1), sw_ast 64, sw_pf 13 2 2, sw_ld 2 0, sw_push (.int 8), sw_na 64, sw_dup, sw_push (.int 0), sw_push (.int 1), sw_ast 64, sw_dup, sw_push (.int 1), sw_push (.int 1), sw_ast 64, sw_dup, sw_push (.int 2), sw_push (.int 1), sw_ast 64, sw_dup, sw_push (.int 3), sw_push (.int 3), sw_ast 64, sw_dup, sw_push (.int 4), sw_push (.int 3), sw_ast 64, sw_dup, sw_push (.int 5), sw_push (.int 2), sw_ast 64, sw_dup, sw_push (.int 6), sw_push (.int 1), sw_ast 64, sw_dup, sw_push (.int 7), sw_push (.int 5), sw_ast 64, sw_pf 13 3 2, sw_ld 2 0, sw_push (.int 1), sw_pf 13 4 0, sw_push (.int 0), sw_sti 1, sw_goto 1 [true, true]] l st P := rfl
theorem at_X14_init_1 : sw_at cf b_X14_init 1 l st P = sw_ex cf b_X14_init [sw_ld 0 1, sw_push (.int 4), sw_ic 3 2 [false, false], sw_ld 2 0, sw_gf 13 1, sw_nw 24 [.int 0, .null, .int 0], sw_dup, sw_ci m_J2_init 0, sw_cv 24 m_J2_add 1, sw_pop, sw_inc 1 1, sw_goto 1 [true, true]] l st P := rfl
theorem at_X14_init_2 : sw_at cf b_X14_init 2 l st P = sw_ex cf b_X14_init [sw_ret] l st P := rfl
theorem M_X14_of (d : Nat) (as : List Value) (P : sw_P) (h : sw_wd 2 as = true) : sw_Z (d + 1) m_X14_of as P = sw_at (sw_Z d) b_X14_of 0 (sw_en 2 as) [] P := if_pos h
theorem at_X14_of_0 : sw_at cf b_X14_of 0 l st P = sw_ex cf b_X14_of [sw_ld 2 0, sw_gf 13 0, sw_ld 0 1, sw_cv 24 m_J2_get 1, sw_ct [16], sw_rv 2] l st P := rfl
theorem M_X14_meant (d : Nat) (as : List Value) (P : sw_P) (h : sw_wd 6 as = true) : sw_Z (d + 1) m_X14_meant as P = sw_at (sw_Z d) b_X14_meant 0 (sw_en 6 as) [] P := if_pos h
theorem at_X14_meant_0 : sw_at cf b_X14_meant 0 l st P = sw_ex cf b_X14_meant [sw_push (.int 8), sw_na 64, sw_sta 1, sw_push (.int 0), sw_sti 2, sw_goto 1 [true, true, true, false, false, false]] l st P := rfl
theorem at_X14_meant_1 : sw_at cf b_X14_meant 1 l st P = sw_ex cf b_X14_meant [sw_ld 0 2, sw_push (.int 4), sw_ic 3 6 [false, true, false, false, false, false], sw_push (.int 0), sw_sti 3, sw_goto 2 [true, true, true, true, false, false]] l st P := rfl
theorem at_X14_meant_2 : sw_at cf b_X14_meant 2 l st P = sw_ex cf b_X14_meant [sw_ld 0 3, sw_ld 2 0, sw_gf 13 2, sw_ld 0 2, sw_ald 64, sw_ic 3 5 [true, true, true, false, false, false], sw_ld 2 0, sw_gf 13 1, sw_ld 0 2, sw_cv 24 m_J2_get 1, sw_ct [24], sw_cv 24 m_J2_iterator 0, sw_sta 4, sw_goto 3 [true, true, true, true, true, false]] l st P := rfl
theorem at_X14_meant_3 : sw_at cf b_X14_meant 3 l st P = sw_ex cf b_X14_meant [sw_ld 2 4, sw_cv 25 m_J23_hasNext 0, sw_iz 0 4 [true, true, true, true, false, false], sw_ld 2 4, sw_cv 25 m_J23_next 0, sw_ct [64], sw_sta 5, sw_ld 2 1, sw_ld 2 5, sw_push (.int 0), sw_ald 64, sw_ld 2 0, sw_ld 2 5, sw_push (.int 1), sw_ald 64, sw_ld 2 1, sw_cv 13 m_X14_meant_2 2, sw_ast 64, sw_goto 3 [true, true, true, true, true, false]] l st P := rfl
theorem at_X14_meant_4 : sw_at cf b_X14_meant 4 l st P = sw_ex cf b_X14_meant [sw_inc 3 1, sw_goto 2 [true, true, true, true, false, false]] l st P := rfl
theorem at_X14_meant_5 : sw_at cf b_X14_meant 5 l st P = sw_ex cf b_X14_meant [sw_inc 2 1, sw_goto 1 [true, true, true, false, false, false]] l st P := rfl
theorem at_X14_meant_6 : sw_at cf b_X14_meant 6 l st P = sw_ex cf b_X14_meant [sw_ld 2 1, sw_rv 2] l st P := rfl
theorem M_X14_meant_2 (d : Nat) (as : List Value) (P : sw_P) (h : sw_wd 6 as = true) : sw_Z (d + 1) m_X14_meant_2 as P = sw_at (sw_Z d) b_X14_meant_2 0 (sw_en 6 as) [] P := if_pos h
theorem at_X14_meant_2_0 : sw_at cf b_X14_meant_2 0 l st P = sw_ex cf b_X14_meant_2 [sw_ld 2 0, sw_ld 0 1, sw_cv 13 m_X14_of 1, sw_sta 3, sw_ld 2 3, sw_gf 16 0, sw_iz 1 1 [true, false, true, true, false, false], sw_ld 2 3, sw_gf 16 1, sw_rv 0] l st P := rfl
theorem at_X14_meant_2_1 : sw_at cf b_X14_meant_2 1 l st P = sw_ex cf b_X14_meant_2 [sw_ld 2 3, sw_gf 16 0, sw_push (.int 1), sw_ic 1 2 [true, false, true, true, false, false], sw_ld 2 2, sw_ld 2 3, sw_gf 16 1, sw_ald 64, sw_rv 0] l st P := rfl
theorem at_X14_meant_2_2 : sw_at cf b_X14_meant_2 2 l st P = sw_ex cf b_X14_meant_2 [sw_ld 2 0, sw_ld 2 3, sw_gf 16 1, sw_ld 2 2, sw_cv 13 m_X14_meant_2 2, sw_sti 4, sw_ld 2 0, sw_ld 2 3, sw_gf 16 2, sw_ld 2 2, sw_cv 13 m_X14_meant_2 2, sw_sti 5, sw_ld 2 3, sw_gf 16 0, sw_push (.int 2), sw_ic 1 3 [false, false, false, true, true, true], sw_ld 0 4, sw_ld 0 5, sw_ii (fun x y => x + y), sw_goto 6 [false, false, false, false, false, false]] l st P := rfl
theorem at_X14_meant_2_3 : sw_at cf b_X14_meant_2 3 l st P = sw_ex cf b_X14_meant_2 [sw_ld 2 3, sw_gf 16 0, sw_push (.int 3), sw_ic 1 4 [false, false, false, true, true, true], sw_ld 0 4, sw_ld 0 5, sw_ii (fun x y => x - y), sw_goto 6 [false, false, false, false, false, false]] l st P := rfl
theorem at_X14_meant_2_4 : sw_at cf b_X14_meant_2 4 l st P = sw_ex cf b_X14_meant_2 [sw_ld 2 3, sw_gf 16 0, sw_push (.int 4), sw_ic 1 5 [false, false, false, false, true, true], sw_ld 0 4, sw_ld 0 5, sw_ii (fun x y => x * y), sw_goto 6 [false, false, false, false, false, false]] l st P := rfl
theorem at_X14_meant_2_5 : sw_at cf b_X14_meant_2 5 l st P = sw_ex cf b_X14_meant_2 [sw_push (.int 3), sw_ld 0 4, sw_ii (fun x y => x * y), sw_push (.int 2), sw_ld 0 5, sw_ii (fun x y => x * y), sw_ii (fun x y => x + y), sw_push (.int 1), sw_ii (fun x y => x + y), sw_goto 6 [false, false, false, false, false, false]] l st P := rfl
theorem at_X14_meant_2_6 : sw_at cf b_X14_meant_2 6 l st P = sw_ex cf b_X14_meant_2 [sw_rv 0] l st P := rfl
theorem M_X14_latency (d : Nat) (as : List Value) (P : sw_P) (h : sw_wd 2 as = true) : sw_Z (d + 1) m_X14_latency as P = sw_at (sw_Z d) b_X14_latency 0 (sw_en 2 as) [] P := if_pos h
theorem at_X14_latency_0 : sw_at cf b_X14_latency 0 l st P = sw_ex cf b_X14_latency [sw_ld 2 0, sw_gf 13 3, sw_ld 0 1, sw_push (.int 3), sw_ic 0 1 [false, false], sw_ld 0 1, sw_push (.int 5), sw_ic 1 2 [false, true], sw_goto 1 [false, false]] l st P := rfl
theorem at_X14_latency_1 : sw_at cf b_X14_latency 1 l st P = sw_ex cf b_X14_latency [sw_push (.int 2), sw_goto 8 [false, false]] l st P := rfl
theorem at_X14_latency_2 : sw_at cf b_X14_latency 2 l st P = sw_ex cf b_X14_latency [sw_ld 0 1, sw_push (.int 4), sw_ic 1 3 [false, true], sw_push (.int 3), sw_goto 8 [false, false]] l st P := rfl
theorem at_X14_latency_3 : sw_at cf b_X14_latency 3 l st P = sw_ex cf b_X14_latency [sw_ld 0 1, sw_push (.int 6), sw_ic 1 4 [false, true], sw_push (.int 4), sw_goto 8 [false, false]] l st P := rfl
theorem at_X14_latency_4 : sw_at cf b_X14_latency 4 l st P = sw_ex cf b_X14_latency [sw_ld 0 1, sw_push (.int 7), sw_ic 1 5 [false, true], sw_push (.int 5), sw_goto 8 [false, false]] l st P := rfl
theorem at_X14_latency_5 : sw_at cf b_X14_latency 5 l st P = sw_ex cf b_X14_latency [sw_ld 0 1, sw_push (.int 8), sw_ic 1 6 [false, true], sw_push (.int 6), sw_goto 8 [false, false]] l st P := rfl
theorem at_X14_latency_6 : sw_at cf b_X14_latency 6 l st P = sw_ex cf b_X14_latency [sw_ld 0 1, sw_push (.int 9), sw_ic 1 7 [false, true], sw_push (.int 7), sw_goto 8 [false, false]] l st P := rfl
theorem at_X14_latency_7 : sw_at cf b_X14_latency 7 l st P = sw_ex cf b_X14_latency [sw_ld 0 1, sw_goto 8 [false, false]] l st P := rfl
theorem at_X14_latency_8 : sw_at cf b_X14_latency 8 l st P = sw_ex cf b_X14_latency [sw_ald 64, sw_rv 0] l st P := rfl
theorem M_X15_init (d : Nat) (as : List Value) (P : sw_P) (h : sw_wd 6 as = true) : sw_Z (d + 1) m_X15_init as P = sw_at (sw_Z d) b_X15_init 0 (sw_en 6 as) [] P := if_pos h
theorem at_X15_init_0 : sw_at cf b_X15_init 0 l st P = sw_ex cf b_X15_init [sw_ld 2 0, sw_oin, sw_ld 2 0, sw_ld 0 1, sw_pf 14 0 0, sw_ld 2 0, sw_ld 0 2, sw_pf 14 1 0, sw_ld 2 0, sw_ld 0 3, sw_pf 14 2 0, sw_ld 2 0, sw_ld 0 4, sw_pf 14 3 1, sw_ld 2 0, sw_ld 0 5, sw_pf 14 4 1, sw_ret] l st P := rfl
theorem M_X15_scratch (d : Nat) (as : List Value) (P : sw_P) (h : sw_wd 1 as = true) : sw_Z (d + 1) m_X15_scratch as P = sw_at (sw_Z d) b_X15_scratch 0 (sw_en 1 as) [] P := if_pos h
theorem at_X15_scratch_0 : sw_at cf b_X15_scratch 0 l st P = sw_ex cf b_X15_scratch [sw_ld 2 0, sw_gf 14 0, sw_push (.int 3), sw_ii (fun x y => x - y), sw_rv 0] l st P := rfl
theorem M_X15_isKept (d : Nat) (as : List Value) (P : sw_P) (h : sw_wd 2 as = true) : sw_Z (d + 1) m_X15_isKept as P = sw_at (sw_Z d) b_X15_isKept 0 (sw_en 2 as) [] P := if_pos h
theorem at_X15_isKept_0 : sw_at cf b_X15_isKept 0 l st P = sw_ex cf b_X15_isKept [sw_ld 2 0, sw_gf 14 1, sw_ld 0 1, sw_cs m_X13_has 2, sw_rv 1] l st P := rfl
theorem M_X16_isOfTwo (d : Nat) (as : List Value) (P : sw_P) (h : sw_wd 1 as = true) : sw_Z (d + 1) m_X16_isOfTwo as P = sw_at (sw_Z d) b_X16_isOfTwo 0 (sw_en 1 as) [] P := if_pos h
theorem at_X16_isOfTwo_0 : sw_at cf b_X16_isOfTwo 0 l st P = sw_ex cf b_X16_isOfTwo [sw_ld 2 0, sw_gf 15 0, sw_cv 40 m_J8_ordinal 0, sw_gs 2, sw_cv 40 m_J8_ordinal 0, sw_ic 2 1 [false], sw_push (.int 1), sw_goto 2 [false]] l st P := rfl
theorem at_X16_isOfTwo_1 : sw_at cf b_X16_isOfTwo 1 l st P = sw_ex cf b_X16_isOfTwo [sw_push (.int 0), sw_goto 2 [false]] l st P := rfl
theorem at_X16_isOfTwo_2 : sw_at cf b_X16_isOfTwo 2 l st P = sw_ex cf b_X16_isOfTwo [sw_rv 1] l st P := rfl
theorem M_X16_is (d : Nat) (as : List Value) (P : sw_P) (h : sw_wd 2 as = true) : sw_Z (d + 1) m_X16_is as P = sw_at (sw_Z d) b_X16_is 0 (sw_en 2 as) [] P := if_pos h
theorem at_X16_is_0 : sw_at cf b_X16_is 0 l st P = sw_ex cf b_X16_is [sw_ld 2 0, sw_gf 15 0, sw_ld 2 1, sw_iac false 1 [false, false], sw_push (.int 1), sw_goto 2 [false, false]] l st P := rfl
theorem at_X16_is_1 : sw_at cf b_X16_is 1 l st P = sw_ex cf b_X16_is [sw_push (.int 0), sw_goto 2 [false, false]] l st P := rfl
theorem at_X16_is_2 : sw_at cf b_X16_is 2 l st P = sw_ex cf b_X16_is [sw_rv 1] l st P := rfl
theorem M_X16_init (d : Nat) (as : List Value) (P : sw_P) (h : sw_wd 4 as = true) : sw_Z (d + 1) m_X16_init as P = sw_at (sw_Z d) b_X16_init 0 (sw_en 4 as) [] P := if_pos h
theorem at_X16_init_0 : sw_at cf b_X16_init 0 l st P = sw_ex cf b_X16_init [sw_ld 2 0, sw_oin, sw_ld 2 0, sw_ld 2 1, sw_pf 15 0 2, sw_ld 2 0, sw_ld 0 2, sw_pf 15 1 0, sw_ld 2 0, sw_ld 0 3, sw_pf 15 2 0, sw_ret] l st P := rfl
theorem M_X17_init (d : Nat) (as : List Value) (P : sw_P) (h : sw_wd 4 as = true) : sw_Z (d + 1) m_X17_init as P = sw_at (sw_Z d) b_X17_init 0 (sw_en 4 as) [] P := if_pos h
theorem at_X17_init_0 : sw_at cf b_X17_init 0 l st P = sw_ex cf b_X17_init [sw_ld 2 0, sw_oin, sw_ld 2 0, sw_ld 0 1, sw_pf 16 0 0, sw_ld 2 0, sw_ld 0 2, sw_pf 16 1 0, sw_ld 2 0, sw_ld 0 3, sw_pf 16 2 0, sw_ret] l st P := rfl
theorem M_X17_isOfTwo (d : Nat) (as : List Value) (P : sw_P) (h : sw_wd 1 as = true) : sw_Z (d + 1) m_X17_isOfTwo as P = sw_at (sw_Z d) b_X17_isOfTwo 0 (sw_en 1 as) [] P := if_pos h
theorem at_X17_isOfTwo_0 : sw_at cf b_X17_isOfTwo 0 l st P = sw_ex cf b_X17_isOfTwo [sw_ld 2 0, sw_gf 16 0, sw_push (.int 2), sw_ic 2 1 [false], sw_push (.int 1), sw_goto 2 [false]] l st P := rfl
theorem at_X17_isOfTwo_1 : sw_at cf b_X17_isOfTwo 1 l st P = sw_ex cf b_X17_isOfTwo [sw_push (.int 0), sw_goto 2 [false]] l st P := rfl
theorem at_X17_isOfTwo_2 : sw_at cf b_X17_isOfTwo 2 l st P = sw_ex cf b_X17_isOfTwo [sw_rv 1] l st P := rfl
theorem M_X18_init (d : Nat) (as : List Value) (P : sw_P) (h : sw_wd 3 as = true) : sw_Z (d + 1) m_X18_init as P = sw_at (sw_Z d) b_X18_init 0 (sw_en 3 as) [] P := if_pos h
theorem at_X18_init_0 : sw_at cf b_X18_init 0 l st P = sw_ex cf b_X18_init [sw_ld 2 0, sw_oin, sw_ld 2 0, sw_ld 0 1, sw_pf 17 0 0, sw_ld 2 0, sw_ld 0 2, sw_pf 17 1 0, sw_ret] l st P := rfl
theorem M_X19_init (d : Nat) (as : List Value) (P : sw_P) (h : sw_wd 7 as = true) : sw_Z (d + 1) m_X19_init as P = sw_at (sw_Z d) b_X19_init 0 (sw_en 7 as) [] P := if_pos h
theorem at_X19_init_0 : sw_at cf b_X19_init 0 l st P = sw_ex cf b_X19_init [sw_ld 2 0, sw_oin, sw_ld 2 0, sw_nw 24 [.int 0, .null, .int 0], sw_dup, sw_ci m_J2_init 0, sw_pf 18 4 2, sw_ld 2 0, sw_nw 24 [.int 0, .null, .int 0], sw_dup, sw_ci m_J2_init 0, sw_pf 18 5 2, sw_ld 2 0, sw_nw 24 [.int 0, .null, .int 0], sw_dup, sw_ci m_J2_init 0, sw_pf 18 7 2, sw_ld 2 0, sw_ld 2 1, sw_pf 18 0 2, sw_ld 2 0, sw_ld 2 2, sw_pf 18 1 2, sw_ld 2 0, sw_nw 19 [.null, .null, .null, .int 0, .null, .int 0, .int 0], sw_dup, sw_ld 2 1, sw_ld 2 2, sw_ld 0 3, sw_ci m_X20_init 3, sw_gf 19 2, sw_pf 18 2 2, sw_push (.int 8), sw_sti 4, sw_ld 2 0, sw_gf 18 2, sw_cv 24 m_J2_iterator 0, sw_sta 5, sw_goto 1 [true, false, false, false, true, true, false]] l st P := rfl
theorem at_X19_init_1 : sw_at cf b_X19_init 1 l st P = sw_ex cf b_X19_init [sw_ld 2 5, sw_cv 25 m_J23_hasNext 0, sw_iz 0 2 [true, false, false, false, true, false, false], sw_ld 2 5, sw_cv 25 m_J23_next 0, sw_ct [20], sw_sta 6, sw_ld 0 4, sw_ld 2 6, sw_gf 20 1, sw_push (.int 1), sw_ii (fun x y => x + y), sw_mm sw_max, sw_sti 4, sw_goto 1 [true, false, false, false, true, true, false]] l st P := rfl
theorem at_X19_init_2 : sw_at cf b_X19_init 2 l st P = sw_ex cf b_X19_init [sw_ld 2 0, sw_ld 0 4, sw_na 68, sw_pf 18 3 2, sw_push (.int 0), sw_sti 5, sw_goto 3 [true, false, false, false, true, true, false]] l st P := rfl
theorem at_X19_init_3 : sw_at cf b_X19_init 3 l st P = sw_ex cf b_X19_init [sw_ld 0 5, sw_ld 0 4, sw_ic 3 4 [true, false, false, false, false, false, false], sw_ld 2 0, sw_gf 18 3, sw_ld 0 5, sw_nw 21 [.int 0, .int 0, .int 0, .int 0, .int 0, .int 0, .int 0, .int 0, .int 0, .int 0, .int 0, .int 0], sw_dup, sw_ld 0 5, sw_ci m_X22_init 1, sw_asr 68 [21], sw_inc 5 1, sw_goto 3 [true, false, false, false, true, true, false]] l st P := rfl
theorem at_X19_init_4 : sw_at cf b_X19_init 4 l st P = sw_ex cf b_X19_init [sw_ld 2 0, sw_cv 18 m_X19_live 0, sw_ld 2 0, sw_cv 18 m_X19_give 0, sw_ld 2 0, sw_gf 18 4, sw_cv 24 m_J2_iterator 0, sw_sta 5, sw_goto 5 [true, false, false, false, false, true, false]] l st P := rfl
theorem at_X19_init_5 : sw_at cf b_X19_init 5 l st P = sw_ex cf b_X19_init [sw_ld 2 5, sw_cv 25 m_J23_hasNext 0, sw_iz 0 7 [true, false, false, false, false, false, false], sw_ld 2 5, sw_cv 25 m_J23_next 0, sw_ct [21], sw_sta 6, sw_ld 2 6, sw_cv 21 m_X22_isSpilled 0, sw_iz 0 6 [true, false, false, false, false, true, false], sw_ld 2 0, sw_ld 2 6, sw_cv 18 m_X19_spill 1, sw_goto 6 [true, false, false, false, false, true, false]] l st P := rfl
theorem at_X19_init_6 : sw_at cf b_X19_init 6 l st P = sw_ex cf b_X19_init [sw_goto 5 [true, false, false, false, false, true, false]] l st P := rfl
theorem at_X19_init_7 : sw_at cf b_X19_init 7 l st P = sw_ex cf b_X19_init [sw_push (.int 0), sw_sti 5, sw_goto 8 [true, false, false, false, false, true, false]] l st P := rfl
theorem at_X19_init_8 : sw_at cf b_X19_init 8 l st P = sw_ex cf b_X19_init [sw_ld 0 5, sw_ld 2 0, sw_gf 18 2, sw_cv 24 m_J2_size 0, sw_ic 3 9 [true, false, false, false, false, false, false], sw_nw 22 [.int 0, .null, .null], sw_dup, sw_ld 2 0, sw_ld 0 5, sw_ci m_X23_init 2, sw_cv 22 m_X23_lay 0, sw_inc 5 1, sw_goto 8 [true, false, false, false, false, true, false]] l st P := rfl
theorem at_X19_init_9 : sw_at cf b_X19_init 9 l st P = sw_ex cf b_X19_init [sw_nw 23 [.null, .int 0, .int 0, .null], sw_dup, sw_ld 2 0, sw_ci m_X24_init 1, sw_cv 23 m_X24_go 0, sw_ret] l st P := rfl
theorem M_X19_live (d : Nat) (as : List Value) (P : sw_P) (h : sw_wd 7 as = true) : sw_Z (d + 1) m_X19_live as P = sw_at (sw_Z d) b_X19_live 0 (sw_en 7 as) [] P := if_pos h
theorem at_X19_live_0 : sw_at cf b_X19_live 0 l st P = sw_ex cf b_X19_live [sw_push (.int 0), sw_sti 1, sw_goto 1 [true, true, false, false, false, false, false]] l st P := rfl
theorem at_X19_live_1 : sw_at cf b_X19_live 1 l st P = sw_ex cf b_X19_live [sw_ld 0 1, sw_ld 2 0, sw_gf 18 2, sw_cv 24 m_J2_size 0, sw_ic 3 5 [true, false, false, false, false, false, false], sw_ld 2 0, sw_gf 18 2, sw_ld 0 1, sw_cv 24 m_J2_get 1, sw_ct [20], sw_sta 2, sw_ld 2 2, sw_gf 20 0, sw_push (.int 9), sw_ic 1 2 [true, true, true, false, false, false, false], sw_ld 2 0, sw_gf 18 5, sw_ld 0 1, sw_cs m_J19_valueOf 1, sw_cv 24 m_J2_add 1, sw_pop, sw_goto 2 [true, true, true, false, false, false, false]] l st P := rfl
theorem at_X19_live_2 : sw_at cf b_X19_live 2 l st P = sw_ex cf b_X19_live [sw_ld 2 2, sw_gf 20 2, sw_sta 3, sw_ld 2 3, sw_al, sw_sti 4, sw_push (.int 0), sw_sti 5, sw_goto 3 [true, true, true, true, true, true, false]] l st P := rfl
theorem at_X19_live_3 : sw_at cf b_X19_live 3 l st P = sw_ex cf b_X19_live [sw_ld 0 5, sw_ld 0 4, sw_ic 3 4 [true, true, true, false, false, false, false], sw_ld 2 3, sw_ld 0 5, sw_ald 64, sw_sti 6, sw_ld 2 0, sw_ld 0 6, sw_ld 0 1, sw_ld 2 0, sw_ld 2 2, sw_cv 18 m_X19_timesOf 1, sw_cv 18 m_X19_touch 3, sw_inc 5 1, sw_goto 3 [true, true, true, true, true, true, false]] l st P := rfl
theorem at_X19_live_4 : sw_at cf b_X19_live 4 l st P = sw_ex cf b_X19_live [sw_ld 2 0, sw_ld 2 2, sw_gf 20 1, sw_ld 0 1, sw_ld 2 0, sw_ld 2 2, sw_cv 18 m_X19_timesOf 1, sw_cv 18 m_X19_touch 3, sw_ld 2 0, sw_ld 2 0, sw_gf 18 3, sw_ld 2 2, sw_gf 20 1, sw_ald 68, sw_ld 2 2, sw_ld 0 1, sw_cv 18 m_X19_note 3, sw_inc 1 1, sw_goto 1 [true, true, false, false, false, false, false]] l st P := rfl
theorem at_X19_live_5 : sw_at cf b_X19_live 5 l st P = sw_ex cf b_X19_live [sw_ld 2 0, sw_gf 18 3, sw_sta 1, sw_ld 2 1, sw_al, sw_sti 2, sw_push (.int 0), sw_sti 3, sw_goto 6 [true, true, true, true, false, false, false]] l st P := rfl
theorem at_X19_live_6 : sw_at cf b_X19_live 6 l st P = sw_ex cf b_X19_live [sw_ld 0 3, sw_ld 0 2, sw_ic 3 8 [true, false, false, false, false, false, false], sw_ld 2 1, sw_ld 0 3, sw_ald 68, sw_sta 4, sw_ld 2 4, sw_cv 21 m_X22_isIn 0, sw_iz 0 7 [true, true, true, true, false, false, false], sw_ld 2 0, sw_ld 2 4, sw_cv 18 m_X19_settle 1, sw_goto 7 [true, true, true, true, false, false, false]] l st P := rfl
theorem at_X19_live_7 : sw_at cf b_X19_live 7 l st P = sw_ex cf b_X19_live [sw_inc 3 1, sw_goto 6 [true, true, true, true, false, false, false]] l st P := rfl
theorem at_X19_live_8 : sw_at cf b_X19_live 8 l st P = sw_ex cf b_X19_live [sw_push (.int 0), sw_sti 1, sw_goto 9 [true, true, false, false, false, false, false]] l st P := rfl
theorem at_X19_live_9 : sw_at cf b_X19_live 9 l st P = sw_ex cf b_X19_live [sw_ld 0 1, sw_ld 2 0, sw_gf 18 2, sw_cv 24 m_J2_size 0, sw_ic 3 13 [false, false, false, false, false, false, false], sw_ld 2 0, sw_gf 18 3, sw_sta 2, sw_ld 2 2, sw_al, sw_sti 3, sw_push (.int 0), sw_sti 4, sw_goto 10 [true, true, true, true, true, false, false]] l st P := rfl
theorem at_X19_live_10 : sw_at cf b_X19_live 10 l st P = sw_ex cf b_X19_live [sw_ld 0 4, sw_ld 0 3, sw_ic 3 12 [true, true, false, false, false, false, false], sw_ld 2 2, sw_ld 0 4, sw_ald 68, sw_sta 5, sw_ld 2 5, sw_gf 21 1, sw_ld 0 1, sw_ic 1 11 [true, true, true, true, true, false, false], sw_ld 2 0, sw_gf 18 4, sw_ld 2 5, sw_cv 24 m_J2_add 1, sw_pop, sw_goto 11 [true, true, true, true, true, false, false]] l st P := rfl
theorem at_X19_live_11 : sw_at cf b_X19_live 11 l st P = sw_ex cf b_X19_live [sw_inc 4 1, sw_goto 10 [true, true, true, true, true, false, false]] l st P := rfl
theorem at_X19_live_12 : sw_at cf b_X19_live 12 l st P = sw_ex cf b_X19_live [sw_inc 1 1, sw_goto 9 [true, true, false, false, false, false, false]] l st P := rfl
theorem at_X19_live_13 : sw_at cf b_X19_live 13 l st P = sw_ex cf b_X19_live [sw_ret] l st P := rfl
theorem M_X19_timesOf (d : Nat) (as : List Value) (P : sw_P) (h : sw_wd 2 as = true) : sw_Z (d + 1) m_X19_timesOf as P = sw_at (sw_Z d) b_X19_timesOf 0 (sw_en 2 as) [] P := if_pos h
theorem at_X19_timesOf_0 : sw_at cf b_X19_timesOf 0 l st P = sw_ex cf b_X19_timesOf [sw_ld 2 1, sw_gf 20 4, sw_push (.int (-1)), sw_ic 1 1 [true, true], sw_push (.int 1), sw_goto 2 [false, false]] l st P := rfl
theorem at_X19_timesOf_1 : sw_at cf b_X19_timesOf 1 l st P = sw_ex cf b_X19_timesOf [sw_ld 2 0, sw_gf 18 0, sw_gf 13 2, sw_ld 2 1, sw_gf 20 4, sw_ald 64, sw_goto 2 [false, false]] l st P := rfl
theorem at_X19_timesOf_2 : sw_at cf b_X19_timesOf 2 l st P = sw_ex cf b_X19_timesOf [sw_rv 0] l st P := rfl
theorem M_X19_touch (d : Nat) (as : List Value) (P : sw_P) (h : sw_wd 4 as = true) : sw_Z (d + 1) m_X19_touch as P = sw_at (sw_Z d) b_X19_touch 0 (sw_en 4 as) [] P := if_pos h
theorem at_X19_touch_0 : sw_at cf b_X19_touch 0 l st P = sw_ex cf b_X19_touch [sw_ld 2 0, sw_gf 18 3, sw_ld 0 1, sw_ald 68, sw_dup, sw_gf 21 3, sw_push (.int 1), sw_ii (fun x y => x + y), sw_pf 21 3 0, sw_ld 2 0, sw_gf 18 3, sw_ld 0 1, sw_ald 68, sw_dup, sw_gf 21 4, sw_ld 0 3, sw_ii (fun x y => x + y), sw_pf 21 4 0, sw_ld 2 0, sw_gf 18 3, sw_ld 0 1, sw_ald 68, sw_ld 0 2, sw_pf 21 2 0, sw_ret] l st P := rfl
theorem M_X19_note (d : Nat) (as : List Value) (P : sw_P) (h : sw_wd 5 as = true) : sw_Z (d + 1) m_X19_note as P = sw_at (sw_Z d) b_X19_note 0 (sw_en 5 as) [] P := if_pos h
theorem at_X19_note_0 : sw_at cf b_X19_note 0 l st P = sw_ex cf b_X19_note [sw_ld 2 1, sw_dup, sw_gf 21 11, sw_push (.int 1), sw_ii (fun x y => x + y), sw_pf 21 11 0, sw_ld 2 1, sw_gf 21 1, sw_push (.int (-1)), sw_ic 0 1 [true, true, true, true, false], sw_ld 2 1, sw_push (.int 0), sw_pf 21 8 1, sw_ret] l st P := rfl
theorem at_X19_note_1 : sw_at cf b_X19_note 1 l st P = sw_ex cf b_X19_note [sw_ld 2 1, sw_ld 0 3, sw_pf 21 1 0, sw_ld 2 1, sw_ld 2 2, sw_gf 20 0, sw_iz 1 2 [true, true, true, false, false], sw_push (.int 1), sw_goto 3 [true, true, true, false, false]] l st P := rfl
theorem at_X19_note_2 : sw_at cf b_X19_note 2 l st P = sw_ex cf b_X19_note [sw_push (.int 0), sw_goto 3 [true, true, true, false, false]] l st P := rfl
theorem at_X19_note_3 : sw_at cf b_X19_note 3 l st P = sw_ex cf b_X19_note [sw_pf 21 8 1, sw_ld 2 1, sw_ld 2 2, sw_gf 20 3, sw_pf 21 9 0, sw_ld 2 2, sw_gf 20 0, sw_push (.int 1), sw_ic 0 4 [false, true, true, false, false], sw_ld 2 0, sw_gf 18 1, sw_gf 14 4, sw_iz 0 5 [false, true, true, false, false], sw_ld 2 2, sw_gf 20 0, sw_push (.int 2), sw_ic 2 5 [false, true, true, false, false], sw_ld 2 2, sw_gf 20 0, sw_push (.int 4), sw_ic 4 5 [false, true, true, false, false], sw_goto 4 [false, true, true, false, false]] l st P := rfl
theorem at_X19_note_4 : sw_at cf b_X19_note 4 l st P = sw_ex cf b_X19_note [sw_push (.int 1), sw_goto 6 [false, true, true, false, false]] l st P := rfl
theorem at_X19_note_5 : sw_at cf b_X19_note 5 l st P = sw_ex cf b_X19_note [sw_push (.int 0), sw_goto 6 [false, true, true, false, false]] l st P := rfl
theorem at_X19_note_6 : sw_at cf b_X19_note 6 l st P = sw_ex cf b_X19_note [sw_sti 4, sw_ld 0 4, sw_iz 0 7 [false, false, false, false, false], sw_ld 2 1, sw_ld 2 2, sw_gf 20 2, sw_push (.int 0), sw_ald 64, sw_pf 21 10 0, sw_goto 7 [false, false, false, false, false]] l st P := rfl
theorem at_X19_note_7 : sw_at cf b_X19_note 7 l st P = sw_ex cf b_X19_note [sw_ret] l st P := rfl
theorem M_X19_settle (d : Nat) (as : List Value) (P : sw_P) (h : sw_wd 4 as = true) : sw_Z (d + 1) m_X19_settle as P = sw_at (sw_Z d) b_X19_settle 0 (sw_en 4 as) [] P := if_pos h
theorem at_X19_settle_0 : sw_at cf b_X19_settle 0 l st P = sw_ex cf b_X19_settle [sw_ld 2 1, sw_gf 21 0, sw_push (.int 8), sw_ic 3 1 [true, true, false, false], sw_ld 2 0, sw_gf 18 0, sw_gf 13 4, sw_ld 2 1, sw_gf 21 0, sw_cs m_X13_has 2, sw_iz 0 1 [true, true, false, false], sw_ld 2 1, sw_ld 2 0, sw_gf 18 2, sw_cv 24 m_J2_size 0, sw_pf 21 2 0, sw_goto 2 [true, true, false, false]] l st P := rfl
theorem at_X19_settle_1 : sw_at cf b_X19_settle 1 l st P = sw_ex cf b_X19_settle [sw_ld 2 0, sw_ld 2 1, sw_cv 18 m_X19_stretch 1, sw_goto 2 [true, true, false, false]] l st P := rfl
theorem at_X19_settle_2 : sw_at cf b_X19_settle 2 l st P = sw_ex cf b_X19_settle [sw_ld 2 1, sw_push (.int 100), sw_ld 2 1, sw_gf 21 4, sw_ii (fun x y => x * y), sw_ld 2 1, sw_gf 21 2, sw_ld 2 1, sw_gf 21 1, sw_ii (fun x y => x - y), sw_push (.int 1), sw_ii (fun x y => x + y), sw_dvi (fun x y => x / y), sw_pf 21 4 0, sw_ld 2 0, sw_gf 18 5, sw_cv 24 m_J2_iterator 0, sw_sta 2, sw_goto 3 [false, true, true, false]] l st P := rfl
theorem at_X19_settle_3 : sw_at cf b_X19_settle 3 l st P = sw_ex cf b_X19_settle [sw_ld 2 2, sw_cv 25 m_J23_hasNext 0, sw_iz 0 6 [false, false, false, false], sw_ld 2 2, sw_cv 25 m_J23_next 0, sw_ct [41], sw_cv 41 m_J19_intValue 0, sw_sti 3, sw_ld 2 1, sw_dup, sw_gf 21 5, sw_ld 2 1, sw_ld 0 3, sw_cv 21 m_X22_goesOver 1, sw_iz 0 4 [false, true, true, false], sw_push (.int 1), sw_goto 5 [false, true, true, false]] l st P := rfl
theorem at_X19_settle_4 : sw_at cf b_X19_settle 4 l st P = sw_ex cf b_X19_settle [sw_push (.int 0), sw_goto 5 [false, true, true, false]] l st P := rfl
theorem at_X19_settle_5 : sw_at cf b_X19_settle 5 l st P = sw_ex cf b_X19_settle [sw_ii (fun x y => x + y), sw_pf 21 5 0, sw_goto 3 [false, true, true, false]] l st P := rfl
theorem at_X19_settle_6 : sw_at cf b_X19_settle 6 l st P = sw_ex cf b_X19_settle [sw_ret] l st P := rfl
theorem M_X19_stretch (d : Nat) (as : List Value) (P : sw_P) (h : sw_wd 4 as = true) : sw_Z (d + 1) m_X19_stretch as P = sw_at (sw_Z d) b_X19_stretch 0 (sw_en 4 as) [] P := if_pos h
theorem at_X19_stretch_0 : sw_at cf b_X19_stretch 0 l st P = sw_ex cf b_X19_stretch [sw_ld 2 0, sw_gf 18 2, sw_ld 2 1, sw_gf 21 2, sw_cv 24 m_J2_get 1, sw_ct [20], sw_gf 20 4, sw_sti 2, sw_ld 0 2, sw_push (.int (-1)), sw_ic 0 1 [false, false, false, false], sw_ld 2 0, sw_gf 18 0, sw_gf 13 2, sw_ld 0 2, sw_ald 64, sw_push (.int 1), sw_ic 0 1 [false, false, false, false], sw_ld 2 0, sw_gf 18 2, sw_ld 2 1, sw_gf 21 1, sw_cv 24 m_J2_get 1, sw_ct [20], sw_gf 20 4, sw_ld 0 2, sw_ic 1 2 [true, true, true, false], sw_goto 1 [false, false, false, false]] l st P := rfl
theorem at_X19_stretch_1 : sw_at cf b_X19_stretch 1 l st P = sw_ex cf b_X19_stretch [sw_ret] l st P := rfl
theorem at_X19_stretch_2 : sw_at cf b_X19_stretch 2 l st P = sw_ex cf b_X19_stretch [sw_ld 2 1, sw_gf 21 2, sw_sti 3, sw_goto 3 [true, true, true, true]] l st P := rfl
theorem at_X19_stretch_3 : sw_at cf b_X19_stretch 3 l st P = sw_ex cf b_X19_stretch [sw_ld 0 3, sw_ld 2 0, sw_gf 18 2, sw_cv 24 m_J2_size 0, sw_ic 3 4 [false, true, false, true], sw_ld 2 0, sw_gf 18 2, sw_ld 0 3, sw_cv 24 m_J2_get 1, sw_ct [20], sw_gf 20 4, sw_ld 0 2, sw_ic 1 4 [false, true, false, true], sw_inc 3 1, sw_goto 3 [true, true, true, true]] l st P := rfl
theorem at_X19_stretch_4 : sw_at cf b_X19_stretch 4 l st P = sw_ex cf b_X19_stretch [sw_ld 2 1, sw_ld 0 3, sw_pf 21 2 0, sw_ret] l st P := rfl
theorem M_X19_give (d : Nat) (as : List Value) (P : sw_P) (h : sw_wd 6 as = true) : sw_Z (d + 1) m_X19_give as P = sw_at (sw_Z d) b_X19_give 0 (sw_en 6 as) [] P := if_pos h
theorem at_X19_give_0 : sw_at cf b_X19_give 0 l st P = sw_ex cf b_X19_give [sw_ld 2 0, sw_gf 18 4, sw_cv 24 m_J2_iterator 0, sw_sta 1, sw_goto 1 [true, true, false, false, false, false]] l st P := rfl
theorem at_X19_give_1 : sw_at cf b_X19_give 1 l st P = sw_ex cf b_X19_give [sw_ld 2 1, sw_cv 25 m_J23_hasNext 0, sw_iz 0 14 [false, false, false, false, false, false], sw_ld 2 1, sw_cv 25 m_J23_next 0, sw_ct [21], sw_sta 2, sw_ld 2 0, sw_gf 18 1, sw_cv 14 m_X15_scratch 0, sw_na 65, sw_sta 3, sw_push (.int 0), sw_sti 4, sw_goto 2 [true, true, true, true, true, false]] l st P := rfl
theorem at_X19_give_2 : sw_at cf b_X19_give 2 l st P = sw_ex cf b_X19_give [sw_ld 0 4, sw_ld 2 3, sw_al, sw_ic 3 3 [true, true, true, true, false, false], sw_ld 2 3, sw_ld 0 4, sw_ld 2 0, sw_ld 2 2, sw_ld 0 4, sw_cv 18 m_X19_canHave 2, sw_ast 65, sw_inc 4 1, sw_goto 2 [true, true, true, true, true, false]] l st P := rfl
theorem at_X19_give_3 : sw_at cf b_X19_give 3 l st P = sw_ex cf b_X19_give [sw_ld 2 0, sw_gf 18 4, sw_cv 24 m_J2_iterator 0, sw_sta 4, sw_goto 4 [true, true, true, true, true, false]] l st P := rfl
theorem at_X19_give_4 : sw_at cf b_X19_give 4 l st P = sw_ex cf b_X19_give [sw_ld 2 4, sw_cv 25 m_J23_hasNext 0, sw_iz 0 6 [true, true, true, true, false, false], sw_ld 2 4, sw_cv 25 m_J23_next 0, sw_ct [21], sw_sta 5, sw_ld 2 5, sw_gf 21 6, sw_push (.int (-1)), sw_ic 0 5 [true, true, true, true, true, false], sw_ld 2 5, sw_gf 21 2, sw_ld 2 2, sw_gf 21 1, sw_ic 5 5 [true, true, true, true, true, false], sw_ld 2 3, sw_ld 2 5, sw_gf 21 6, sw_push (.int 0), sw_ast 65, sw_goto 5 [true, true, true, true, true, false]] l st P := rfl
theorem at_X19_give_5 : sw_at cf b_X19_give 5 l st P = sw_ex cf b_X19_give [sw_goto 4 [true, true, true, true, true, false]] l st P := rfl
theorem at_X19_give_6 : sw_at cf b_X19_give 6 l st P = sw_ex cf b_X19_give [sw_ld 2 2, sw_gf 21 10, sw_push (.int (-1)), sw_ic 1 7 [true, true, true, true, false, false], sw_push (.int (-1)), sw_goto 8 [true, true, true, true, false, false]] l st P := rfl
theorem at_X19_give_7 : sw_at cf b_X19_give 7 l st P = sw_ex cf b_X19_give [sw_ld 2 0, sw_gf 18 3, sw_ld 2 2, sw_gf 21 10, sw_ald 68, sw_gf 21 6, sw_goto 8 [true, true, true, true, false, false]] l st P := rfl
theorem at_X19_give_8 : sw_at cf b_X19_give 8 l st P = sw_ex cf b_X19_give [sw_sti 4, sw_ld 0 4, sw_push (.int (-1)), sw_ic 0 9 [true, true, true, true, false, false], sw_ld 2 3, sw_ld 0 4, sw_ald 65, sw_iz 0 9 [true, true, true, true, false, false], sw_ld 2 2, sw_ld 0 4, sw_pf 21 6 0, sw_goto 1 [true, true, false, false, false, false]] l st P := rfl
theorem at_X19_give_9 : sw_at cf b_X19_give 9 l st P = sw_ex cf b_X19_give [sw_ld 2 3, sw_al, sw_push (.int 1), sw_ii (fun x y => x - y), sw_sti 5, sw_goto 10 [true, true, true, true, false, true]] l st P := rfl
theorem at_X19_give_10 : sw_at cf b_X19_give 10 l st P = sw_ex cf b_X19_give [sw_ld 0 5, sw_iz 2 12 [true, true, true, false, false, false], sw_ld 2 3, sw_ld 0 5, sw_ald 65, sw_iz 0 11 [true, true, true, true, false, true], sw_ld 2 2, sw_ld 0 5, sw_pf 21 6 0, sw_goto 11 [true, true, true, true, false, true]] l st P := rfl
theorem at_X19_give_11 : sw_at cf b_X19_give 11 l st P = sw_ex cf b_X19_give [sw_inc 5 (-1), sw_goto 10 [true, true, true, true, false, true]] l st P := rfl
theorem at_X19_give_12 : sw_at cf b_X19_give 12 l st P = sw_ex cf b_X19_give [sw_ld 2 2, sw_gf 21 6, sw_push (.int (-1)), sw_ic 1 13 [true, true, false, false, false, false], sw_ld 2 0, sw_ld 2 2, sw_cv 18 m_X19_yieldOne 1, sw_goto 13 [true, true, false, false, false, false]] l st P := rfl
theorem at_X19_give_13 : sw_at cf b_X19_give 13 l st P = sw_ex cf b_X19_give [sw_goto 1 [true, true, false, false, false, false]] l st P := rfl
theorem at_X19_give_14 : sw_at cf b_X19_give 14 l st P = sw_ex cf b_X19_give [sw_ret] l st P := rfl
theorem M_X19_canHave (d : Nat) (as : List Value) (P : sw_P) (h : sw_wd 3 as = true) : sw_Z (d + 1) m_X19_canHave as P = sw_at (sw_Z d) b_X19_canHave 0 (sw_en 3 as) [] P := if_pos h
theorem at_X19_canHave_0 : sw_at cf b_X19_canHave 0 l st P = sw_ex cf b_X19_canHave [sw_ld 2 1, sw_gf 21 5, sw_iz 0 1 [false, false, false], sw_ld 2 0, sw_gf 18 1, sw_ld 0 2, sw_cv 14 m_X15_isKept 1, sw_iz 0 2 [false, false, false], sw_goto 1 [false, false, false]] l st P := rfl
theorem at_X19_canHave_1 : sw_at cf b_X19_canHave 1 l st P = sw_ex cf b_X19_canHave [sw_push (.int 1), sw_goto 3 [false, false, false]] l st P := rfl
theorem at_X19_canHave_2 : sw_at cf b_X19_canHave 2 l st P = sw_ex cf b_X19_canHave [sw_push (.int 0), sw_goto 3 [false, false, false]] l st P := rfl
theorem at_X19_canHave_3 : sw_at cf b_X19_canHave 3 l st P = sw_ex cf b_X19_canHave [sw_rv 1] l st P := rfl
theorem M_X19_yieldOne (d : Nat) (as : List Value) (P : sw_P) (h : sw_wd 5 as = true) : sw_Z (d + 1) m_X19_yieldOne as P = sw_at (sw_Z d) b_X19_yieldOne 0 (sw_en 5 as) [] P := if_pos h
theorem at_X19_yieldOne_0 : sw_at cf b_X19_yieldOne 0 l st P = sw_ex cf b_X19_yieldOne [sw_ld 2 1, sw_sta 2, sw_ld 2 0, sw_gf 18 4, sw_cv 24 m_J2_iterator 0, sw_sta 3, sw_goto 1 [true, true, true, true, false]] l st P := rfl
theorem at_X19_yieldOne_1 : sw_at cf b_X19_yieldOne 1 l st P = sw_ex cf b_X19_yieldOne [sw_ld 2 3, sw_cv 25 m_J23_hasNext 0, sw_iz 0 5 [false, true, true, false, false], sw_ld 2 3, sw_cv 25 m_J23_next 0, sw_ct [21], sw_sta 4, sw_ld 2 4, sw_gf 21 6, sw_push (.int (-1)), sw_ic 0 1 [true, true, true, true, false], sw_ld 2 4, sw_gf 21 2, sw_ld 2 1, sw_gf 21 1, sw_ic 5 1 [true, true, true, true, false], sw_ld 2 0, sw_ld 2 1, sw_ld 2 4, sw_gf 21 6, sw_cv 18 m_X19_canHave 2, sw_iz 1 2 [true, true, true, true, true], sw_goto 1 [true, true, true, true, false]] l st P := rfl
theorem at_X19_yieldOne_2 : sw_at cf b_X19_yieldOne 2 l st P = sw_ex cf b_X19_yieldOne [sw_ld 2 4, sw_gf 21 4, sw_ld 2 2, sw_gf 21 4, sw_ic 2 3 [true, true, false, true, true], sw_ld 2 4, sw_gf 21 4, sw_ld 2 2, sw_gf 21 4, sw_ic 1 4 [true, true, true, true, false], sw_ld 2 4, sw_gf 21 0, sw_ld 2 2, sw_gf 21 0, sw_ic 5 4 [true, true, true, true, false], sw_goto 3 [true, true, false, true, true]] l st P := rfl
theorem at_X19_yieldOne_3 : sw_at cf b_X19_yieldOne 3 l st P = sw_ex cf b_X19_yieldOne [sw_ld 2 4, sw_sta 2, sw_goto 4 [true, true, true, true, false]] l st P := rfl
theorem at_X19_yieldOne_4 : sw_at cf b_X19_yieldOne 4 l st P = sw_ex cf b_X19_yieldOne [sw_goto 1 [true, true, true, true, false]] l st P := rfl
theorem at_X19_yieldOne_5 : sw_at cf b_X19_yieldOne 5 l st P = sw_ex cf b_X19_yieldOne [sw_ld 2 2, sw_ld 2 1, sw_iac false 6 [false, true, true, false, false], sw_ret] l st P := rfl
theorem at_X19_yieldOne_6 : sw_at cf b_X19_yieldOne 6 l st P = sw_ex cf b_X19_yieldOne [sw_ld 2 1, sw_ld 2 2, sw_gf 21 6, sw_pf 21 6 0, sw_ld 2 2, sw_push (.int (-1)), sw_pf 21 6 0, sw_ret] l st P := rfl
theorem M_X19_spill (d : Nat) (as : List Value) (P : sw_P) (h : sw_wd 3 as = true) : sw_Z (d + 1) m_X19_spill as P = sw_at (sw_Z d) b_X19_spill 0 (sw_en 3 as) [] P := if_pos h
theorem at_X19_spill_0 : sw_at cf b_X19_spill 0 l st P = sw_ex cf b_X19_spill [sw_ld 2 1, sw_dup, sw_gf 21 8, sw_ld 2 1, sw_gf 21 11, sw_push (.int 1), sw_ic 1 1 [true, true, false], sw_push (.int 1), sw_goto 2 [true, true, false]] l st P := rfl
theorem at_X19_spill_1 : sw_at cf b_X19_spill 1 l st P = sw_ex cf b_X19_spill [sw_push (.int 0), sw_goto 2 [true, true, false]] l st P := rfl
theorem at_X19_spill_2 : sw_at cf b_X19_spill 2 l st P = sw_ex cf b_X19_spill [sw_ii (fun x y => x &&& y), sw_pf 21 8 1, sw_ld 2 1, sw_gf 21 8, sw_iz 0 3 [true, true, false], sw_ret] l st P := rfl
theorem at_X19_spill_3 : sw_at cf b_X19_spill 3 l st P = sw_ex cf b_X19_spill [sw_push (.int 0), sw_sti 2, sw_goto 4 [true, true, true]] l st P := rfl
theorem at_X19_spill_4 : sw_at cf b_X19_spill 4 l st P = sw_ex cf b_X19_spill [sw_ld 2 0, sw_ld 2 1, sw_ld 0 2, sw_cv 18 m_X19_isTaken 2, sw_iz 0 5 [true, true, true], sw_inc 2 1, sw_goto 4 [true, true, true]] l st P := rfl
theorem at_X19_spill_5 : sw_at cf b_X19_spill 5 l st P = sw_ex cf b_X19_spill [sw_ld 2 1, sw_ld 0 2, sw_pf 21 7 0, sw_ld 2 0, sw_ld 2 0, sw_gf 18 6, sw_ld 0 2, sw_push (.int 1), sw_ii (fun x y => x + y), sw_mm sw_max, sw_pf 18 6 0, sw_ret] l st P := rfl
theorem M_X19_isTaken (d : Nat) (as : List Value) (P : sw_P) (h : sw_wd 5 as = true) : sw_Z (d + 1) m_X19_isTaken as P = sw_at (sw_Z d) b_X19_isTaken 0 (sw_en 5 as) [] P := if_pos h
theorem at_X19_isTaken_0 : sw_at cf b_X19_isTaken 0 l st P = sw_ex cf b_X19_isTaken [sw_ld 2 0, sw_gf 18 4, sw_cv 24 m_J2_iterator 0, sw_sta 3, sw_goto 1 [false, true, true, true, false]] l st P := rfl
theorem at_X19_isTaken_1 : sw_at cf b_X19_isTaken 1 l st P = sw_ex cf b_X19_isTaken [sw_ld 2 3, sw_cv 25 m_J23_hasNext 0, sw_iz 0 3 [false, false, false, false, false], sw_ld 2 3, sw_cv 25 m_J23_next 0, sw_ct [21], sw_sta 4, sw_ld 2 4, sw_ld 2 1, sw_iac true 2 [false, true, true, true, false], sw_ld 2 4, sw_gf 21 7, sw_ld 0 2, sw_ic 1 2 [false, true, true, true, false], sw_ld 2 4, sw_ld 2 1, sw_cv 21 m_X22_meets 1, sw_iz 0 2 [false, true, true, true, false], sw_push (.int 1), sw_rv 1] l st P := rfl
theorem at_X19_isTaken_2 : sw_at cf b_X19_isTaken 2 l st P = sw_ex cf b_X19_isTaken [sw_goto 1 [false, true, true, true, false]] l st P := rfl
theorem at_X19_isTaken_3 : sw_at cf b_X19_isTaken 3 l st P = sw_ex cf b_X19_isTaken [sw_push (.int 0), sw_rv 1] l st P := rfl
theorem M_X19_answer (d : Nat) (as : List Value) (P : sw_P) (h : sw_wd 3 as = true) : sw_Z (d + 1) m_X19_answer as P = sw_at (sw_Z d) b_X19_answer 0 (sw_en 3 as) [] P := if_pos h
theorem at_X19_answer_0 : sw_at cf b_X19_answer 0 l st P = sw_ex cf b_X19_answer [sw_ld 2 0, sw_gf 18 3, sw_ld 0 1, sw_ald 68, sw_sta 2, sw_ld 2 2, sw_gf 21 6, sw_push (.int (-1)), sw_ic 0 1 [true, false, true], sw_ld 2 0, sw_gf 18 11, sw_ld 2 2, sw_gf 21 6, sw_ald 64, sw_goto 3 [false, false, false]] l st P := rfl
theorem at_X19_answer_1 : sw_at cf b_X19_answer 1 l st P = sw_ex cf b_X19_answer [sw_ld 2 2, sw_gf 21 8, sw_iz 0 2 [true, false, true], sw_ld 2 2, sw_gf 21 9, sw_goto 3 [false, false, false]] l st P := rfl
theorem at_X19_answer_2 : sw_at cf b_X19_answer 2 l st P = sw_ex cf b_X19_answer [sw_ld 2 0, sw_gf 18 12, sw_ld 2 2, sw_gf 21 7, sw_ald 64, sw_goto 3 [false, false, false]] l st P := rfl
theorem at_X19_answer_3 : sw_at cf b_X19_answer 3 l st P = sw_ex cf b_X19_answer [sw_rv 0] l st P := rfl
theorem M_X19_told (d : Nat) (as : List Value) (P : sw_P) (h : sw_wd 3 as = true) : sw_Z (d + 1) m_X19_told as P = sw_at (sw_Z d) b_X19_told 0 (sw_en 3 as) [] P := if_pos h
theorem at_X19_told_0 : sw_at cf b_X19_told 0 l st P = sw_ex cf b_X19_told [sw_push (.int 13), sw_na 64, sw_dup, sw_push (.int 0), sw_ld 2 0, sw_gf 18 2, sw_cv 24 m_J2_size 0, sw_ast 64, sw_dup, sw_push (.int 1), sw_ld 2 0, sw_gf 18 4, sw_cv 24 m_J2_size 0, sw_ast 64, sw_dup, sw_push (.int 2), sw_ld 2 0, sw_push (.int 0), sw_cv 18 m_X19_spilled 1, sw_ast 64, sw_dup, sw_push (.int 3), sw_ld 2 0, sw_push (.int 1), sw_cv 18 m_X19_spilled 1, sw_ast 64, sw_dup, sw_push (.int 4), sw_ld 2 0, sw_gf 18 6, sw_ast 64, sw_dup, sw_push (.int 5), sw_ld 2 0, sw_cv 18 m_X19_frame 0, sw_ast 64, sw_dup, sw_push (.int 6), sw_ld 2 0, sw_gf 18 7, sw_cv 24 m_J2_size 0, sw_ast 64, sw_dup, sw_push (.int 7), sw_ld 2 0, sw_push (.int 1), sw_push (.int 1), sw_cv 18 m_X19_in 2, sw_ast 64, sw_dup, sw_push (.int 8), sw_ld 2 0, sw_push (.int 7), sw_push (.int 8), sw_cv 18 m_X19_in 2, sw_ast 64, sw_dup, sw_push (.int 9), sw_ld 2 0, sw_gf 18 8, sw_ast 64, sw_dup, sw_push (.int 10), sw_ld 2 0, sw_gf 18 9, sw_ast 64, sw_dup, sw_push (.int 11), sw_ld 2 0, sw_gf 18 10, sw_ast 64, sw_dup, sw_push (.int 12), sw_ld 2 0, sw_cv 18 m_X19_most 0, sw_ast 64, sw_sta 2, sw_ld 2 2, sw_ld 0 1, sw_push (.int 3), sw_ii (fun x y => x - y), sw_ald 64, sw_rv 0] l st P := rfl
theorem M_X19_spilled (d : Nat) (as : List Value) (P : sw_P) (h : sw_wd 5 as = true) : sw_Z (d + 1) m_X19_spilled as P = sw_at (sw_Z d) b_X19_spilled 0 (sw_en 5 as) [] P := if_pos h
theorem at_X19_spilled_0 : sw_at cf b_X19_spilled 0 l st P = sw_ex cf b_X19_spilled [sw_push (.int 0), sw_sti 2, sw_ld 2 0, sw_gf 18 4, sw_cv 24 m_J2_iterator 0, sw_sta 3, sw_goto 1 [false, true, true, true, false]] l st P := rfl
theorem at_X19_spilled_1 : sw_at cf b_X19_spilled 1 l st P = sw_ex cf b_X19_spilled [sw_ld 2 3, sw_cv 25 m_J23_hasNext 0, sw_iz 0 5 [false, false, true, false, false], sw_ld 2 3, sw_cv 25 m_J23_next 0, sw_ct [21], sw_sta 4, sw_ld 0 2, sw_ld 2 4, sw_cv 21 m_X22_isSpilled 0, sw_iz 0 3 [false, true, false, true, false], sw_ld 0 1, sw_iz 0 2 [false, true, false, true, false], sw_ld 2 4, sw_gf 21 8, sw_iz 0 3 [false, true, false, true, false], sw_goto 2 [false, true, false, true, false]] l st P := rfl
theorem at_X19_spilled_2 : sw_at cf b_X19_spilled 2 l st P = sw_ex cf b_X19_spilled [sw_push (.int 1), sw_goto 4 [false, true, false, true, false]] l st P := rfl
theorem at_X19_spilled_3 : sw_at cf b_X19_spilled 3 l st P = sw_ex cf b_X19_spilled [sw_push (.int 0), sw_goto 4 [false, true, false, true, false]] l st P := rfl
theorem at_X19_spilled_4 : sw_at cf b_X19_spilled 4 l st P = sw_ex cf b_X19_spilled [sw_ii (fun x y => x + y), sw_sti 2, sw_goto 1 [false, true, true, true, false]] l st P := rfl
theorem at_X19_spilled_5 : sw_at cf b_X19_spilled 5 l st P = sw_ex cf b_X19_spilled [sw_ld 0 2, sw_rv 0] l st P := rfl
theorem M_X19_frame (d : Nat) (as : List Value) (P : sw_P) (h : sw_wd 4 as = true) : sw_Z (d + 1) m_X19_frame as P = sw_at (sw_Z d) b_X19_frame 0 (sw_en 4 as) [] P := if_pos h
theorem at_X19_frame_0 : sw_at cf b_X19_frame 0 l st P = sw_ex cf b_X19_frame [sw_push (.int 0), sw_sti 1, sw_ld 2 0, sw_gf 18 4, sw_cv 24 m_J2_iterator 0, sw_sta 2, sw_goto 1 [true, true, true, false]] l st P := rfl
theorem at_X19_frame_1 : sw_at cf b_X19_frame 1 l st P = sw_ex cf b_X19_frame [sw_ld 2 2, sw_cv 25 m_J23_hasNext 0, sw_iz 0 3 [true, true, false, false], sw_ld 2 2, sw_cv 25 m_J23_next 0, sw_ct [21], sw_sta 3, sw_ld 2 3, sw_gf 21 6, sw_push (.int (-1)), sw_ic 0 2 [true, true, true, false], sw_ld 2 0, sw_gf 18 1, sw_ld 2 3, sw_gf 21 6, sw_cv 14 m_X15_isKept 1, sw_iz 0 2 [true, true, true, false], sw_ld 0 1, sw_push (.int 1), sw_ld 2 3, sw_gf 21 6, sw_ii (fun x y => x <<< (y &&& 31)), sw_ii (fun x y => x ||| y), sw_sti 1, sw_goto 2 [true, true, true, false]] l st P := rfl
theorem at_X19_frame_2 : sw_at cf b_X19_frame 2 l st P = sw_ex cf b_X19_frame [sw_goto 1 [true, true, true, false]] l st P := rfl
theorem at_X19_frame_3 : sw_at cf b_X19_frame 3 l st P = sw_ex cf b_X19_frame [sw_ld 2 0, sw_gf 18 6, sw_ld 0 1, sw_cs m_J19_bitCount 1, sw_ii (fun x y => x + y), sw_sti 2, sw_ld 0 2, sw_ld 0 2, sw_push (.int 2), sw_dvi (fun x y => x - x / y * y), sw_ii (fun x y => x + y), sw_rv 0] l st P := rfl
theorem M_X19_in (d : Nat) (as : List Value) (P : sw_P) (h : sw_wd 6 as = true) : sw_Z (d + 1) m_X19_in as P = sw_at (sw_Z d) b_X19_in 0 (sw_en 6 as) [] P := if_pos h
theorem at_X19_in_0 : sw_at cf b_X19_in 0 l st P = sw_ex cf b_X19_in [sw_push (.int 0), sw_sti 3, sw_ld 2 0, sw_gf 18 7, sw_cv 24 m_J2_iterator 0, sw_sta 4, sw_goto 1 [false, true, true, true, true, false]] l st P := rfl
theorem at_X19_in_1 : sw_at cf b_X19_in 1 l st P = sw_ex cf b_X19_in [sw_ld 2 4, sw_cv 25 m_J23_hasNext 0, sw_iz 0 5 [false, false, false, true, false, false], sw_ld 2 4, sw_cv 25 m_J23_next 0, sw_ct [64], sw_sta 5, sw_ld 0 3, sw_ld 2 5, sw_push (.int 0), sw_ald 64, sw_ld 0 1, sw_ic 0 2 [false, true, true, false, true, false], sw_ld 2 5, sw_push (.int 0), sw_ald 64, sw_ld 0 2, sw_ic 1 3 [false, true, true, false, true, false], sw_goto 2 [false, true, true, false, true, false]] l st P := rfl
theorem at_X19_in_2 : sw_at cf b_X19_in 2 l st P = sw_ex cf b_X19_in [sw_push (.int 1), sw_goto 4 [false, true, true, false, true, false]] l st P := rfl
theorem at_X19_in_3 : sw_at cf b_X19_in 3 l st P = sw_ex cf b_X19_in [sw_push (.int 0), sw_goto 4 [false, true, true, false, true, false]] l st P := rfl
theorem at_X19_in_4 : sw_at cf b_X19_in 4 l st P = sw_ex cf b_X19_in [sw_ii (fun x y => x + y), sw_sti 3, sw_goto 1 [false, true, true, true, true, false]] l st P := rfl
theorem at_X19_in_5 : sw_at cf b_X19_in 5 l st P = sw_ex cf b_X19_in [sw_ld 0 3, sw_rv 0] l st P := rfl
theorem M_X19_most (d : Nat) (as : List Value) (P : sw_P) (h : sw_wd 6 as = true) : sw_Z (d + 1) m_X19_most as P = sw_at (sw_Z d) b_X19_most 0 (sw_en 6 as) [] P := if_pos h
theorem at_X19_most_0 : sw_at cf b_X19_most 0 l st P = sw_ex cf b_X19_most [sw_push (.int 0), sw_sti 1, sw_push (.int 0), sw_sti 2, sw_goto 1 [true, true, true, false, false, false]] l st P := rfl
theorem at_X19_most_1 : sw_at cf b_X19_most 1 l st P = sw_ex cf b_X19_most [sw_ld 0 2, sw_ld 2 0, sw_gf 18 2, sw_cv 24 m_J2_size 0, sw_ic 4 6 [false, true, false, false, false, false], sw_push (.int 0), sw_sti 3, sw_ld 2 0, sw_gf 18 4, sw_cv 24 m_J2_iterator 0, sw_sta 4, sw_goto 2 [true, true, true, true, true, false]] l st P := rfl
theorem at_X19_most_2 : sw_at cf b_X19_most 2 l st P = sw_ex cf b_X19_most [sw_ld 2 4, sw_cv 25 m_J23_hasNext 0, sw_iz 0 5 [true, true, true, true, false, false], sw_ld 2 4, sw_cv 25 m_J23_next 0, sw_ct [21], sw_sta 5, sw_ld 0 3, sw_ld 2 5, sw_gf 21 1, sw_ld 0 2, sw_ic 4 3 [true, true, true, false, true, false], sw_ld 0 2, sw_ld 2 5, sw_gf 21 2, sw_ic 4 3 [true, true, true, false, true, false], sw_push (.int 1), sw_goto 4 [true, true, true, false, true, false]] l st P := rfl
theorem at_X19_most_3 : sw_at cf b_X19_most 3 l st P = sw_ex cf b_X19_most [sw_push (.int 0), sw_goto 4 [true, true, true, false, true, false]] l st P := rfl
theorem at_X19_most_4 : sw_at cf b_X19_most 4 l st P = sw_ex cf b_X19_most [sw_ii (fun x y => x + y), sw_sti 3, sw_goto 2 [true, true, true, true, true, false]] l st P := rfl
theorem at_X19_most_5 : sw_at cf b_X19_most 5 l st P = sw_ex cf b_X19_most [sw_ld 0 1, sw_ld 0 3, sw_mm sw_max, sw_sti 1, sw_inc 2 1, sw_goto 1 [true, true, true, false, false, false]] l st P := rfl
theorem at_X19_most_6 : sw_at cf b_X19_most 6 l st P = sw_ex cf b_X19_most [sw_ld 0 1, sw_rv 0] l st P := rfl
theorem M_X2_init (d : Nat) (as : List Value) (P : sw_P) (h : sw_wd 2 as = true) : sw_Z (d + 1) m_X2_init as P = sw_at (sw_Z d) b_X2_init 0 (sw_en 2 as) [] P := if_pos h
theorem at_X2_init_0 : sw_at cf b_X2_init 0 l st P = sw_ex cf b_X2_init [sw_ld 2 0, sw_oin, sw_ld 2 0, sw_nw 24 [.int 0, .null, .int 0], sw_dup, sw_ci m_J2_init 0, sw_pf 1 0 2, sw_ld 2 0, sw_nw 24 [.int 0, .null, .int 0], sw_dup, sw_ci m_J2_init 0, sw_pf 1 1 2, sw_ld 2 0, sw_push (.int 4), sw_na 64, sw_pf 1 2 2, sw_ld 2 0, sw_push (.int 1), sw_pf 1 3 0, sw_push (.int 0), sw_sti 1, sw_goto 1 [true, true]] l st P := rfl
theorem at_X2_init_1 : sw_at cf b_X2_init 1 l st P = sw_ex cf b_X2_init [sw_ld 0 1, sw_push (.int 4), sw_ic 3 2 [false, false], sw_ld 2 0, sw_gf 1 1, sw_nw 24 [.int 0, .null, .int 0], sw_dup, sw_ci m_J2_init 0, sw_cv 24 m_J2_add 1, sw_pop, sw_ld 2 0, sw_gf 1 2, sw_ld 0 1, sw_push (.int 1), sw_ast 64, sw_inc 1 1, sw_goto 1 [true, true]] l st P := rfl
theorem at_X2_init_2 : sw_at cf b_X2_init 2 l st P = sw_ex cf b_X2_init [sw_ret] l st P := rfl
theorem M_X2_at (d : Nat) (as : List Value) (P : sw_P) (h : sw_wd 2 as = true) : sw_Z (d + 1) m_X2_at as P = sw_at (sw_Z d) b_X2_at 0 (sw_en 2 as) [] P := if_pos h
theorem at_X2_at_0 : sw_at cf b_X2_at 0 l st P = sw_ex cf b_X2_at [sw_ld 2 0, sw_gf 1 0, sw_ld 0 1, sw_cv 24 m_J2_get 1, sw_ct [15], sw_rv 2] l st P := rfl
theorem M_X2_statements (d : Nat) (as : List Value) (P : sw_P) (h : sw_wd 3 as = true) : sw_Z (d + 1) m_X2_statements as P = sw_at (sw_Z d) b_X2_statements 0 (sw_en 3 as) [] P := if_pos h
theorem at_X2_statements_0 : sw_at cf b_X2_statements 0 l st P = sw_ex cf b_X2_statements [sw_push (.int 0), sw_sti 1, sw_push (.int 0), sw_sti 2, sw_goto 1 [true, true, true]] l st P := rfl
theorem at_X2_statements_1 : sw_at cf b_X2_statements 1 l st P = sw_ex cf b_X2_statements [sw_ld 0 2, sw_push (.int 4), sw_ic 3 2 [false, true, false], sw_ld 0 1, sw_ld 2 0, sw_gf 1 1, sw_ld 0 2, sw_cv 24 m_J2_get 1, sw_ct [24], sw_cv 24 m_J2_size 0, sw_ii (fun x y => x + y), sw_sti 1, sw_inc 2 1, sw_goto 1 [true, true, true]] l st P := rfl
theorem at_X2_statements_2 : sw_at cf b_X2_statements 2 l st P = sw_ex cf b_X2_statements [sw_ld 0 1, sw_rv 0] l st P := rfl
theorem M_X2_meant (d : Nat) (as : List Value) (P : sw_P) (h : sw_wd 6 as = true) : sw_Z (d + 1) m_X2_meant as P = sw_at (sw_Z d) b_X2_meant 0 (sw_en 6 as) [] P := if_pos h
theorem at_X2_meant_0 : sw_at cf b_X2_meant 0 l st P = sw_ex cf b_X2_meant [sw_push (.int 8), sw_na 64, sw_sta 1, sw_push (.int 0), sw_sti 2, sw_goto 1 [true, true, true, false, false, false]] l st P := rfl
theorem at_X2_meant_1 : sw_at cf b_X2_meant 1 l st P = sw_ex cf b_X2_meant [sw_ld 0 2, sw_push (.int 4), sw_ic 3 6 [false, true, false, false, false, false], sw_ld 2 0, sw_gf 1 1, sw_ld 0 2, sw_cv 24 m_J2_get 1, sw_ct [24], sw_sta 3, sw_push (.int 0), sw_sti 4, sw_goto 2 [true, true, true, true, true, false]] l st P := rfl
theorem at_X2_meant_2 : sw_at cf b_X2_meant 2 l st P = sw_ex cf b_X2_meant [sw_ld 0 4, sw_ld 2 0, sw_gf 1 2, sw_ld 0 2, sw_ald 64, sw_ic 3 5 [true, true, true, false, false, false], sw_push (.int 0), sw_sti 5, sw_goto 3 [true, true, true, true, true, true]] l st P := rfl
theorem at_X2_meant_3 : sw_at cf b_X2_meant 3 l st P = sw_ex cf b_X2_meant [sw_ld 0 5, sw_ld 2 3, sw_cv 24 m_J2_size 0, sw_ic 3 4 [true, true, true, true, true, false], sw_ld 2 1, sw_ld 2 3, sw_ld 0 5, sw_cv 24 m_J2_get 1, sw_ct [17], sw_gf 17 0, sw_ld 2 0, sw_ld 2 3, sw_ld 0 5, sw_cv 24 m_J2_get 1, sw_ct [17], sw_gf 17 1, sw_ld 2 1, sw_cv 1 m_X2_value 2, sw_ast 64, sw_inc 5 1, sw_goto 3 [true, true, true, true, true, true]] l st P := rfl
theorem at_X2_meant_4 : sw_at cf b_X2_meant 4 l st P = sw_ex cf b_X2_meant [sw_inc 4 1, sw_goto 2 [true, true, true, true, true, false]] l st P := rfl
theorem at_X2_meant_5 : sw_at cf b_X2_meant 5 l st P = sw_ex cf b_X2_meant [sw_inc 2 1, sw_goto 1 [true, true, true, false, false, false]] l st P := rfl
theorem at_X2_meant_6 : sw_at cf b_X2_meant 6 l st P = sw_ex cf b_X2_meant [sw_ld 2 1, sw_rv 2] l st P := rfl
theorem M_X2_value (d : Nat) (as : List Value) (P : sw_P) (h : sw_wd 6 as = true) : sw_Z (d + 1) m_X2_value as P = sw_at (sw_Z d) b_X2_value 0 (sw_en 6 as) [] P := if_pos h
theorem at_X2_value_0 : sw_at cf b_X2_value 0 l st P = sw_ex cf b_X2_value [sw_ld 2 0, sw_ld 0 1, sw_cv 1 m_X2_at 1, sw_sta 3, sw_ld 2 3, sw_gs 0, sw_cv 15 m_X16_is 1, sw_iz 0 1 [true, false, true, true, false, false], sw_ld 2 3, sw_gf 15 1, sw_rv 0] l st P := rfl
theorem at_X2_value_1 : sw_at cf b_X2_value 1 l st P = sw_ex cf b_X2_value [sw_ld 2 3, sw_gs 1, sw_cv 15 m_X16_is 1, sw_iz 0 2 [true, false, true, true, false, false], sw_ld 2 2, sw_ld 2 3, sw_gf 15 1, sw_ald 64, sw_rv 0] l st P := rfl
theorem at_X2_value_2 : sw_at cf b_X2_value 2 l st P = sw_ex cf b_X2_value [sw_ld 2 0, sw_ld 2 3, sw_gf 15 1, sw_ld 2 2, sw_cv 1 m_X2_value 2, sw_sti 4, sw_ld 2 0, sw_ld 2 3, sw_gf 15 2, sw_ld 2 2, sw_cv 1 m_X2_value 2, sw_sti 5, sw_ld 2 3, sw_gf 15 0, sw_cv 40 m_J8_ordinal 0, sw_sw [(2, 3, [false, false, false, false, true, true]), (3, 4, [false, false, false, false, true, true]), (4, 5, [false, false, false, false, true, true])] (6, [false, false, false, false, true, true])] l st P := rfl
theorem at_X2_value_3 : sw_at cf b_X2_value 3 l st P = sw_ex cf b_X2_value [sw_ld 0 4, sw_ld 0 5, sw_ii (fun x y => x + y), sw_rv 0] l st P := rfl
theorem at_X2_value_4 : sw_at cf b_X2_value 4 l st P = sw_ex cf b_X2_value [sw_ld 0 4, sw_ld 0 5, sw_ii (fun x y => x - y), sw_rv 0] l st P := rfl
theorem at_X2_value_5 : sw_at cf b_X2_value 5 l st P = sw_ex cf b_X2_value [sw_ld 0 4, sw_ld 0 5, sw_ii (fun x y => x * y), sw_rv 0] l st P := rfl
theorem at_X2_value_6 : sw_at cf b_X2_value 6 l st P = sw_ex cf b_X2_value [sw_ld 0 4, sw_ld 0 5, sw_cs m_X1_callOf 2, sw_rv 0] l st P := rfl
theorem M_X20_init (d : Nat) (as : List Value) (P : sw_P) (h : sw_wd 7 as = true) : sw_Z (d + 1) m_X20_init as P = sw_at (sw_Z d) b_X20_init 0 (sw_en 7 as) [] P := if_pos h
theorem at_X20_init_0 : sw_at cf b_X20_init 0 l st P = sw_ex cf b_X20_init [sw_ld 2 0, sw_oin, sw_ld 2 0, sw_nw 24 [.int 0, .null, .int 0], sw_dup, sw_ci m_J2_init 0, sw_pf 19 2 2, sw_ld 2 0, sw_push (.int 80), sw_na 64, sw_pf 19 4 2, sw_ld 2 0, sw_push (.int 8), sw_pf 19 5 0, sw_ld 2 0, sw_ld 2 1, sw_pf 19 0 2, sw_ld 2 0, sw_ld 2 2, sw_pf 19 1 2, sw_ld 2 0, sw_ld 0 3, sw_pf 19 3 1, sw_push (.int 0), sw_sti 4, sw_goto 1 [true, true, false, false, true, false, false]] l st P := rfl
theorem at_X20_init_1 : sw_at cf b_X20_init 1 l st P = sw_ex cf b_X20_init [sw_ld 0 4, sw_push (.int 80), sw_ic 3 2 [true, true, false, false, false, false, false], sw_ld 2 0, sw_gf 19 4, sw_ld 0 4, sw_push (.int (-1)), sw_ast 64, sw_inc 4 1, sw_goto 1 [true, true, false, false, true, false, false]] l st P := rfl
theorem at_X20_init_2 : sw_at cf b_X20_init 2 l st P = sw_ex cf b_X20_init [sw_nw 24 [.int 0, .null, .int 0], sw_dup, sw_ci m_J2_init 0, sw_sta 4, sw_ld 2 0, sw_push (.int 0), sw_pf 19 6 0, sw_goto 3 [true, true, false, false, true, false, false]] l st P := rfl
theorem at_X20_init_3 : sw_at cf b_X20_init 3 l st P = sw_ex cf b_X20_init [sw_ld 2 0, sw_gf 19 6, sw_push (.int 4), sw_ic 3 6 [true, false, false, false, true, false, false], sw_ld 2 0, sw_gf 19 2, sw_cv 24 m_J2_clear 0, sw_ld 2 1, sw_gf 13 1, sw_ld 2 0, sw_gf 19 6, sw_cv 24 m_J2_get 1, sw_ct [24], sw_cv 24 m_J2_iterator 0, sw_sta 5, sw_goto 4 [true, true, false, false, true, true, false]] l st P := rfl
theorem at_X20_init_4 : sw_at cf b_X20_init 4 l st P = sw_ex cf b_X20_init [sw_ld 2 5, sw_cv 25 m_J23_hasNext 0, sw_iz 0 5 [true, true, false, false, true, false, false], sw_ld 2 5, sw_cv 25 m_J23_next 0, sw_ct [64], sw_sta 6, sw_ld 2 0, sw_ld 2 6, sw_push (.int 1), sw_ald 64, sw_ld 2 6, sw_push (.int 0), sw_ald 64, sw_cv 19 m_X20_state 2, sw_goto 4 [true, true, false, false, true, true, false]] l st P := rfl
theorem at_X20_init_5 : sw_at cf b_X20_init 5 l st P = sw_ex cf b_X20_init [sw_ld 2 4, sw_ld 2 0, sw_cv 19 m_X20_order 0, sw_cv 24 m_J2_addAll 1, sw_pop, sw_ld 2 0, sw_dup, sw_gf 19 6, sw_push (.int 1), sw_ii (fun x y => x + y), sw_pf 19 6 0, sw_goto 3 [true, true, false, false, true, false, false]] l st P := rfl
theorem at_X20_init_6 : sw_at cf b_X20_init 6 l st P = sw_ex cf b_X20_init [sw_ld 2 0, sw_gf 19 2, sw_cv 24 m_J2_clear 0, sw_ld 2 0, sw_ld 2 4, sw_cv 19 m_X20_enter 1, sw_ld 2 0, sw_gf 19 2, sw_ld 2 4, sw_cv 24 m_J2_addAll 1, sw_pop, sw_ret] l st P := rfl
theorem M_X20_state (d : Nat) (as : List Value) (P : sw_P) (h : sw_wd 3 as = true) : sw_Z (d + 1) m_X20_state as P = sw_at (sw_Z d) b_X20_state 0 (sw_en 3 as) [] P := if_pos h
theorem at_X20_state_0 : sw_at cf b_X20_state 0 l st P = sw_ex cf b_X20_state [sw_ld 2 0, sw_gf 19 0, sw_ld 0 1, sw_cv 13 m_X14_of 1, sw_gf 16 0, sw_push (.int 1), sw_ic 1 1 [true, true, true], sw_ld 2 0, sw_push (.int 1), sw_ld 0 2, sw_push (.int 1), sw_na 64, sw_dup, sw_push (.int 0), sw_ld 2 0, sw_gf 19 0, sw_ld 0 1, sw_cv 13 m_X14_of 1, sw_gf 16 1, sw_ast 64, sw_push (.int 0), sw_cv 19 m_X20_add 4, sw_pop, sw_goto 2 [false, false, false]] l st P := rfl
theorem at_X20_state_1 : sw_at cf b_X20_state 1 l st P = sw_ex cf b_X20_state [sw_ld 2 0, sw_ld 0 1, sw_ld 0 2, sw_cv 19 m_X20_choose 2, sw_pop, sw_goto 2 [false, false, false]] l st P := rfl
theorem at_X20_state_2 : sw_at cf b_X20_state 2 l st P = sw_ex cf b_X20_state [sw_ret] l st P := rfl
theorem M_X20_add (d : Nat) (as : List Value) (P : sw_P) (h : sw_wd 6 as = true) : sw_Z (d + 1) m_X20_add as P = sw_at (sw_Z d) b_X20_add 0 (sw_en 6 as) [] P := if_pos h
theorem at_X20_add_0 : sw_at cf b_X20_add 0 l st P = sw_ex cf b_X20_add [sw_ld 0 2, sw_push (.int (-1)), sw_ic 1 1 [true, true, true, true, true, false], sw_ld 2 0, sw_dup, sw_gf 19 5, sw_dx1, sw_push (.int 1), sw_ii (fun x y => x + y), sw_pf 19 5 0, sw_goto 2 [true, true, false, true, true, false]] l st P := rfl
theorem at_X20_add_1 : sw_at cf b_X20_add 1 l st P = sw_ex cf b_X20_add [sw_ld 0 2, sw_goto 2 [true, true, false, true, true, false]] l st P := rfl
theorem at_X20_add_2 : sw_at cf b_X20_add 2 l st P = sw_ex cf b_X20_add [sw_sti 5, sw_ld 2 0, sw_gf 19 2, sw_nw 20 [.int 0, .int 0, .null, .int 0, .int 0, .int 0], sw_dup, sw_ld 0 1, sw_ld 0 5, sw_ld 2 3, sw_ld 0 4, sw_ld 2 0, sw_gf 19 6, sw_ci m_X21_init 5, sw_cv 24 m_J2_add 1, sw_pop, sw_ld 0 5, sw_rv 0] l st P := rfl
theorem M_X20_choose (d : Nat) (as : List Value) (P : sw_P) (h : sw_wd 7 as = true) : sw_Z (d + 1) m_X20_choose as P = sw_at (sw_Z d) b_X20_choose 0 (sw_en 7 as) [] P := if_pos h
theorem at_X20_choose_0 : sw_at cf b_X20_choose 0 l st P = sw_ex cf b_X20_choose [sw_ld 2 0, sw_gf 19 0, sw_ld 0 1, sw_cv 13 m_X14_of 1, sw_sta 3, sw_ld 2 3, sw_gf 16 0, sw_push (.int 1), sw_ic 1 1 [true, true, true, true, false, false, false], sw_ld 2 3, sw_gf 16 1, sw_rv 0] l st P := rfl
theorem at_X20_choose_1 : sw_at cf b_X20_choose 1 l st P = sw_ex cf b_X20_choose [sw_ld 2 3, sw_gf 16 0, sw_iz 1 2 [true, true, true, true, false, false, false], sw_ld 2 0, sw_push (.int 0), sw_ld 0 2, sw_push (.int 0), sw_na 64, sw_ld 2 3, sw_gf 16 1, sw_cv 19 m_X20_add 4, sw_rv 0] l st P := rfl
theorem at_X20_choose_2 : sw_at cf b_X20_choose 2 l st P = sw_ex cf b_X20_choose [sw_ld 2 0, sw_ld 0 1, sw_cv 19 m_X20_cost 1, sw_sti 4, sw_ld 2 0, sw_ld 2 3, sw_cv 19 m_X20_plain 1, sw_ld 0 4, sw_ic 1 5 [true, false, true, true, true, false, false], sw_ld 2 0, sw_ld 2 3, sw_gf 16 1, sw_push (.int (-1)), sw_cv 19 m_X20_choose 2, sw_sti 5, sw_ld 2 0, sw_ld 2 3, sw_gf 16 2, sw_push (.int (-1)), sw_cv 19 m_X20_choose 2, sw_sti 6, sw_ld 2 0, sw_ld 2 3, sw_gf 16 0, sw_push (.int 5), sw_ic 1 3 [false, false, true, true, false, true, true], sw_push (.int 9), sw_goto 4 [false, false, true, false, false, true, true]] l st P := rfl
theorem at_X20_choose_3 : sw_at cf b_X20_choose 3 l st P = sw_ex cf b_X20_choose [sw_ld 2 3, sw_gf 16 0, sw_goto 4 [false, false, true, false, false, true, true]] l st P := rfl
theorem at_X20_choose_4 : sw_at cf b_X20_choose 4 l st P = sw_ex cf b_X20_choose [sw_ld 0 2, sw_push (.int 2), sw_na 64, sw_dup, sw_push (.int 0), sw_ld 0 5, sw_ast 64, sw_dup, sw_push (.int 1), sw_ld 0 6, sw_ast 64, sw_push (.int 0), sw_cv 19 m_X20_add 4, sw_rv 0] l st P := rfl
theorem at_X20_choose_5 : sw_at cf b_X20_choose 5 l st P = sw_ex cf b_X20_choose [sw_ld 2 0, sw_ld 2 3, sw_cv 19 m_X20_smallCost 1, sw_ld 0 4, sw_ic 1 8 [true, false, true, true, false, false, false], sw_ld 2 0, sw_gf 19 0, sw_ld 2 0, sw_ld 2 3, sw_cv 19 m_X20_small 1, sw_cv 13 m_X14_of 1, sw_gf 16 1, sw_sti 5, sw_ld 2 0, sw_ld 2 0, sw_ld 2 3, sw_ld 2 0, sw_ld 2 3, sw_cv 19 m_X20_small 1, sw_cv 19 m_X20_other 2, sw_push (.int (-1)), sw_cv 19 m_X20_choose 2, sw_sti 6, sw_ld 2 0, sw_push (.int 5), sw_ld 0 2, sw_push (.int 1), sw_na 64, sw_dup, sw_push (.int 0), sw_ld 0 6, sw_ast 64, sw_ld 2 3, sw_gf 16 0, sw_push (.int 2), sw_ic 1 6 [false, false, false, false, false, true, false], sw_ld 0 5, sw_goto 7 [false, false, false, false, false, false, false]] l st P := rfl
theorem at_X20_choose_6 : sw_at cf b_X20_choose 6 l st P = sw_ex cf b_X20_choose [sw_ld 0 5, sw_in (fun x => -x), sw_goto 7 [false, false, false, false, false, false, false]] l st P := rfl
theorem at_X20_choose_7 : sw_at cf b_X20_choose 7 l st P = sw_ex cf b_X20_choose [sw_cv 19 m_X20_add 4, sw_rv 0] l st P := rfl
theorem at_X20_choose_8 : sw_at cf b_X20_choose 8 l st P = sw_ex cf b_X20_choose [sw_ld 2 0, sw_ld 2 3, sw_ld 0 2, sw_cv 19 m_X20_fuse 2, sw_rv 0] l st P := rfl
theorem M_X20_cost (d : Nat) (as : List Value) (P : sw_P) (h : sw_wd 2 as = true) : sw_Z (d + 1) m_X20_cost as P = sw_at (sw_Z d) b_X20_cost 0 (sw_en 2 as) [] P := if_pos h
theorem at_X20_cost_0 : sw_at cf b_X20_cost 0 l st P = sw_ex cf b_X20_cost [sw_ld 2 0, sw_gf 19 4, sw_ld 0 1, sw_ald 64, sw_push (.int (-1)), sw_ic 1 1 [true, true], sw_ld 2 0, sw_gf 19 4, sw_ld 0 1, sw_ld 2 0, sw_ld 0 1, sw_cv 19 m_X20_costNow 1, sw_ast 64, sw_goto 1 [true, true]] l st P := rfl
theorem at_X20_cost_1 : sw_at cf b_X20_cost 1 l st P = sw_ex cf b_X20_cost [sw_ld 2 0, sw_gf 19 4, sw_ld 0 1, sw_ald 64, sw_rv 0] l st P := rfl
theorem M_X20_costNow (d : Nat) (as : List Value) (P : sw_P) (h : sw_wd 3 as = true) : sw_Z (d + 1) m_X20_costNow as P = sw_at (sw_Z d) b_X20_costNow 0 (sw_en 3 as) [] P := if_pos h
theorem at_X20_costNow_0 : sw_at cf b_X20_costNow 0 l st P = sw_ex cf b_X20_costNow [sw_ld 2 0, sw_gf 19 0, sw_ld 0 1, sw_cv 13 m_X14_of 1, sw_sta 2, sw_ld 2 2, sw_gf 16 0, sw_push (.int 1), sw_ic 1 1 [true, false, true], sw_push (.int 0), sw_rv 0] l st P := rfl
theorem at_X20_costNow_1 : sw_at cf b_X20_costNow 1 l st P = sw_ex cf b_X20_costNow [sw_ld 2 2, sw_gf 16 0, sw_iz 1 2 [true, false, true], sw_ld 2 0, sw_gf 19 0, sw_push (.int 0), sw_cv 13 m_X14_latency 1, sw_rv 0] l st P := rfl
theorem at_X20_costNow_2 : sw_at cf b_X20_costNow 2 l st P = sw_ex cf b_X20_costNow [sw_ld 2 0, sw_ld 2 2, sw_cv 19 m_X20_plain 1, sw_ld 2 0, sw_ld 2 2, sw_cv 19 m_X20_smallCost 1, sw_ld 2 0, sw_ld 2 2, sw_cv 19 m_X20_fusedCost 1, sw_mm sw_min, sw_mm sw_min, sw_rv 0] l st P := rfl
theorem M_X20_plain (d : Nat) (as : List Value) (P : sw_P) (h : sw_wd 2 as = true) : sw_Z (d + 1) m_X20_plain as P = sw_at (sw_Z d) b_X20_plain 0 (sw_en 2 as) [] P := if_pos h
theorem at_X20_plain_0 : sw_at cf b_X20_plain 0 l st P = sw_ex cf b_X20_plain [sw_ld 2 0, sw_gf 19 0, sw_ld 2 1, sw_gf 16 0, sw_push (.int 5), sw_ic 1 1 [true, true], sw_push (.int 9), sw_goto 2 [true, true]] l st P := rfl
theorem at_X20_plain_1 : sw_at cf b_X20_plain 1 l st P = sw_ex cf b_X20_plain [sw_ld 2 1, sw_gf 16 0, sw_goto 2 [true, true]] l st P := rfl
theorem at_X20_plain_2 : sw_at cf b_X20_plain 2 l st P = sw_ex cf b_X20_plain [sw_cv 13 m_X14_latency 1, sw_ld 2 0, sw_ld 2 1, sw_gf 16 1, sw_cv 19 m_X20_cost 1, sw_ii (fun x y => x + y), sw_ld 2 0, sw_ld 2 1, sw_gf 16 2, sw_cv 19 m_X20_cost 1, sw_ii (fun x y => x + y), sw_rv 0] l st P := rfl
theorem M_X20_smallCost (d : Nat) (as : List Value) (P : sw_P) (h : sw_wd 2 as = true) : sw_Z (d + 1) m_X20_smallCost as P = sw_at (sw_Z d) b_X20_smallCost 0 (sw_en 2 as) [] P := if_pos h
theorem at_X20_smallCost_0 : sw_at cf b_X20_smallCost 0 l st P = sw_ex cf b_X20_smallCost [sw_ld 2 0, sw_ld 2 1, sw_cv 19 m_X20_small 1, sw_push (.int (-1)), sw_ic 1 1 [true, true], sw_push (.int 2147483647), sw_goto 2 [false, false]] l st P := rfl
theorem at_X20_smallCost_1 : sw_at cf b_X20_smallCost 1 l st P = sw_ex cf b_X20_smallCost [sw_ld 2 0, sw_gf 19 0, sw_push (.int 5), sw_cv 13 m_X14_latency 1, sw_ld 2 0, sw_ld 2 0, sw_ld 2 1, sw_ld 2 0, sw_ld 2 1, sw_cv 19 m_X20_small 1, sw_cv 19 m_X20_other 2, sw_cv 19 m_X20_cost 1, sw_ii (fun x y => x + y), sw_goto 2 [false, false]] l st P := rfl
theorem at_X20_smallCost_2 : sw_at cf b_X20_smallCost 2 l st P = sw_ex cf b_X20_smallCost [sw_rv 0] l st P := rfl
theorem M_X20_small (d : Nat) (as : List Value) (P : sw_P) (h : sw_wd 2 as = true) : sw_Z (d + 1) m_X20_small as P = sw_at (sw_Z d) b_X20_small 0 (sw_en 2 as) [] P := if_pos h
theorem at_X20_small_0 : sw_at cf b_X20_small 0 l st P = sw_ex cf b_X20_small [sw_ld 2 1, sw_gf 16 0, sw_push (.int 2), sw_ic 0 1 [true, true], sw_ld 2 1, sw_gf 16 0, sw_push (.int 3), sw_ic 0 1 [true, true], sw_push (.int (-1)), sw_rv 0] l st P := rfl
theorem at_X20_small_1 : sw_at cf b_X20_small 1 l st P = sw_ex cf b_X20_small [sw_ld 2 0, sw_ld 2 1, sw_gf 16 2, sw_cv 19 m_X20_isSmall 1, sw_iz 0 2 [true, true], sw_ld 2 1, sw_gf 16 2, sw_rv 0] l st P := rfl
theorem at_X20_small_2 : sw_at cf b_X20_small 2 l st P = sw_ex cf b_X20_small [sw_ld 2 1, sw_gf 16 0, sw_push (.int 2), sw_ic 1 3 [false, false], sw_ld 2 0, sw_ld 2 1, sw_gf 16 1, sw_cv 19 m_X20_isSmall 1, sw_iz 0 3 [false, false], sw_ld 2 1, sw_gf 16 1, sw_goto 4 [false, false]] l st P := rfl
theorem at_X20_small_3 : sw_at cf b_X20_small 3 l st P = sw_ex cf b_X20_small [sw_push (.int (-1)), sw_goto 4 [false, false]] l st P := rfl
theorem at_X20_small_4 : sw_at cf b_X20_small 4 l st P = sw_ex cf b_X20_small [sw_rv 0] l st P := rfl
theorem M_X20_isSmall (d : Nat) (as : List Value) (P : sw_P) (h : sw_wd 2 as = true) : sw_Z (d + 1) m_X20_isSmall as P = sw_at (sw_Z d) b_X20_isSmall 0 (sw_en 2 as) [] P := if_pos h
theorem at_X20_isSmall_0 : sw_at cf b_X20_isSmall 0 l st P = sw_ex cf b_X20_isSmall [sw_ld 2 0, sw_gf 19 0, sw_ld 0 1, sw_cv 13 m_X14_of 1, sw_gf 16 0, sw_iz 1 1 [false, false], sw_ld 2 0, sw_gf 19 0, sw_ld 0 1, sw_cv 13 m_X14_of 1, sw_gf 16 1, sw_ld 2 0, sw_gf 19 1, sw_gf 14 2, sw_in (fun x => -x), sw_ld 2 0, sw_gf 19 1, sw_gf 14 2, sw_cs m_X13_isIn 3, sw_iz 0 1 [false, false], sw_push (.int 1), sw_goto 2 [false, false]] l st P := rfl
theorem at_X20_isSmall_1 : sw_at cf b_X20_isSmall 1 l st P = sw_ex cf b_X20_isSmall [sw_push (.int 0), sw_goto 2 [false, false]] l st P := rfl
theorem at_X20_isSmall_2 : sw_at cf b_X20_isSmall 2 l st P = sw_ex cf b_X20_isSmall [sw_rv 1] l st P := rfl
theorem M_X20_other (d : Nat) (as : List Value) (P : sw_P) (h : sw_wd 3 as = true) : sw_Z (d + 1) m_X20_other as P = sw_at (sw_Z d) b_X20_other 0 (sw_en 3 as) [] P := if_pos h
theorem at_X20_other_0 : sw_at cf b_X20_other 0 l st P = sw_ex cf b_X20_other [sw_ld 2 1, sw_gf 16 1, sw_ld 0 2, sw_ic 1 1 [false, true, false], sw_ld 2 1, sw_gf 16 2, sw_goto 2 [false, false, false]] l st P := rfl
theorem at_X20_other_1 : sw_at cf b_X20_other 1 l st P = sw_ex cf b_X20_other [sw_ld 2 1, sw_gf 16 1, sw_goto 2 [false, false, false]] l st P := rfl
theorem at_X20_other_2 : sw_at cf b_X20_other 2 l st P = sw_ex cf b_X20_other [sw_rv 0] l st P := rfl
theorem M_X20_fusedCost (d : Nat) (as : List Value) (P : sw_P) (h : sw_wd 3 as = true) : sw_Z (d + 1) m_X20_fusedCost as P = sw_at (sw_Z d) b_X20_fusedCost 0 (sw_en 3 as) [] P := if_pos h
theorem at_X20_fusedCost_0 : sw_at cf b_X20_fusedCost 0 l st P = sw_ex cf b_X20_fusedCost [sw_ld 2 0, sw_ld 2 1, sw_cv 19 m_X20_fused 1, sw_sti 2, sw_ld 0 2, sw_push (.int (-1)), sw_ic 1 1 [true, true, true], sw_push (.int 2147483647), sw_rv 0] l st P := rfl
theorem at_X20_fusedCost_1 : sw_at cf b_X20_fusedCost 1 l st P = sw_ex cf b_X20_fusedCost [sw_ld 2 0, sw_gf 19 0, sw_push (.int 6), sw_cv 13 m_X14_latency 1, sw_ld 2 0, sw_ld 2 0, sw_gf 19 0, sw_ld 0 2, sw_cv 13 m_X14_of 1, sw_gf 16 1, sw_cv 19 m_X20_cost 1, sw_ii (fun x y => x + y), sw_ld 2 0, sw_ld 2 0, sw_gf 19 0, sw_ld 0 2, sw_cv 13 m_X14_of 1, sw_gf 16 2, sw_cv 19 m_X20_cost 1, sw_ii (fun x y => x + y), sw_ld 2 0, sw_ld 2 0, sw_ld 2 1, sw_ld 0 2, sw_cv 19 m_X20_other 2, sw_cv 19 m_X20_cost 1, sw_ii (fun x y => x + y), sw_rv 0] l st P := rfl
theorem M_X20_fused (d : Nat) (as : List Value) (P : sw_P) (h : sw_wd 2 as = true) : sw_Z (d + 1) m_X20_fused as P = sw_at (sw_Z d) b_X20_fused 0 (sw_en 2 as) [] P := if_pos h
theorem at_X20_fused_0 : sw_at cf b_X20_fused 0 l st P = sw_ex cf b_X20_fused [sw_ld 2 0, sw_gf 19 1, sw_gf 14 3, sw_iz 0 1 [false, false], sw_ld 2 1, sw_gf 16 0, sw_push (.int 2), sw_ic 0 2 [true, true], sw_goto 1 [false, false]] l st P := rfl
theorem at_X20_fused_1 : sw_at cf b_X20_fused 1 l st P = sw_ex cf b_X20_fused [sw_push (.int (-1)), sw_rv 0] l st P := rfl
theorem at_X20_fused_2 : sw_at cf b_X20_fused 2 l st P = sw_ex cf b_X20_fused [sw_ld 2 0, sw_gf 19 0, sw_ld 2 1, sw_gf 16 1, sw_cv 13 m_X14_of 1, sw_gf 16 0, sw_push (.int 4), sw_ic 1 3 [true, true], sw_ld 2 1, sw_gf 16 1, sw_rv 0] l st P := rfl
theorem at_X20_fused_3 : sw_at cf b_X20_fused 3 l st P = sw_ex cf b_X20_fused [sw_ld 2 0, sw_gf 19 0, sw_ld 2 1, sw_gf 16 2, sw_cv 13 m_X14_of 1, sw_gf 16 0, sw_push (.int 4), sw_ic 1 4 [false, false], sw_ld 2 1, sw_gf 16 2, sw_goto 5 [false, false]] l st P := rfl
theorem at_X20_fused_4 : sw_at cf b_X20_fused 4 l st P = sw_ex cf b_X20_fused [sw_push (.int (-1)), sw_goto 5 [false, false]] l st P := rfl
theorem at_X20_fused_5 : sw_at cf b_X20_fused 5 l st P = sw_ex cf b_X20_fused [sw_rv 0] l st P := rfl
theorem M_X20_fuse (d : Nat) (as : List Value) (P : sw_P) (h : sw_wd 7 as = true) : sw_Z (d + 1) m_X20_fuse as P = sw_at (sw_Z d) b_X20_fuse 0 (sw_en 7 as) [] P := if_pos h
theorem at_X20_fuse_0 : sw_at cf b_X20_fuse 0 l st P = sw_ex cf b_X20_fuse [sw_ld 2 0, sw_ld 2 1, sw_cv 19 m_X20_fused 1, sw_sti 3, sw_ld 0 3, sw_ld 2 1, sw_gf 16 2, sw_ic 1 1 [true, true, true, true, false, false, false], sw_ld 2 0, sw_ld 2 1, sw_gf 16 1, sw_push (.int (-1)), sw_cv 19 m_X20_choose 2, sw_goto 2 [true, true, true, true, false, false, false]] l st P := rfl
theorem at_X20_fuse_1 : sw_at cf b_X20_fuse 1 l st P = sw_ex cf b_X20_fuse [sw_push (.int (-1)), sw_goto 2 [true, true, true, true, false, false, false]] l st P := rfl
theorem at_X20_fuse_2 : sw_at cf b_X20_fuse 2 l st P = sw_ex cf b_X20_fuse [sw_sti 4, sw_ld 2 0, sw_ld 2 0, sw_gf 19 0, sw_ld 0 3, sw_cv 13 m_X14_of 1, sw_gf 16 1, sw_push (.int (-1)), sw_cv 19 m_X20_choose 2, sw_sti 5, sw_ld 2 0, sw_ld 2 0, sw_gf 19 0, sw_ld 0 3, sw_cv 13 m_X14_of 1, sw_gf 16 2, sw_push (.int (-1)), sw_cv 19 m_X20_choose 2, sw_sti 6, sw_ld 0 3, sw_ld 2 1, sw_gf 16 1, sw_ic 1 3 [true, false, true, false, true, true, true], sw_ld 2 0, sw_ld 2 1, sw_gf 16 2, sw_push (.int (-1)), sw_cv 19 m_X20_choose 2, sw_sti 4, sw_goto 3 [true, false, true, false, true, true, true]] l st P := rfl
theorem at_X20_fuse_3 : sw_at cf b_X20_fuse 3 l st P = sw_ex cf b_X20_fuse [sw_ld 2 0, sw_push (.int 6), sw_ld 0 2, sw_push (.int 3), sw_na 64, sw_dup, sw_push (.int 0), sw_ld 0 5, sw_ast 64, sw_dup, sw_push (.int 1), sw_ld 0 6, sw_ast 64, sw_dup, sw_push (.int 2), sw_ld 0 4, sw_ast 64, sw_push (.int 0), sw_cv 19 m_X20_add 4, sw_rv 0] l st P := rfl
theorem M_X20_order (d : Nat) (as : List Value) (P : sw_P) (h : sw_wd 5 as = true) : sw_Z (d + 1) m_X20_order as P = sw_at (sw_Z d) b_X20_order 0 (sw_en 5 as) [] P := if_pos h
theorem at_X20_order_0 : sw_at cf b_X20_order 0 l st P = sw_ex cf b_X20_order [sw_ld 2 0, sw_gf 19 2, sw_cv 24 m_J2_size 0, sw_push (.int 1), sw_ii (fun x y => x - y), sw_sti 1, sw_goto 1 [true, true, false, false, false]] l st P := rfl
theorem at_X20_order_1 : sw_at cf b_X20_order 1 l st P = sw_ex cf b_X20_order [sw_ld 0 1, sw_iz 2 5 [true, false, false, false, false], sw_ld 2 0, sw_gf 19 2, sw_ld 0 1, sw_cv 24 m_J2_get 1, sw_ct [20], sw_sta 2, sw_push (.int 0), sw_sti 3, sw_ld 0 1, sw_push (.int 1), sw_ii (fun x y => x + y), sw_sti 4, sw_goto 2 [true, true, true, true, true]] l st P := rfl
theorem at_X20_order_2 : sw_at cf b_X20_order 2 l st P = sw_ex cf b_X20_order [sw_ld 0 4, sw_ld 2 0, sw_gf 19 2, sw_cv 24 m_J2_size 0, sw_ic 3 4 [true, true, true, true, false], sw_ld 2 0, sw_gf 19 2, sw_ld 0 4, sw_cv 24 m_J2_get 1, sw_ct [20], sw_ld 2 2, sw_cv 20 m_X21_needs 1, sw_iz 0 3 [true, true, true, true, true], sw_ld 0 3, sw_ld 2 0, sw_gf 19 2, sw_ld 0 4, sw_cv 24 m_J2_get 1, sw_ct [20], sw_gf 20 5, sw_mm sw_max, sw_sti 3, sw_goto 3 [true, true, true, true, true]] l st P := rfl
theorem at_X20_order_3 : sw_at cf b_X20_order 3 l st P = sw_ex cf b_X20_order [sw_inc 4 1, sw_goto 2 [true, true, true, true, true]] l st P := rfl
theorem at_X20_order_4 : sw_at cf b_X20_order 4 l st P = sw_ex cf b_X20_order [sw_ld 2 2, sw_ld 2 0, sw_gf 19 0, sw_ld 2 2, sw_gf 20 0, sw_cv 13 m_X14_latency 1, sw_ld 0 3, sw_ii (fun x y => x + y), sw_pf 20 5 0, sw_inc 1 (-1), sw_goto 1 [true, true, false, false, false]] l st P := rfl
theorem at_X20_order_5 : sw_at cf b_X20_order 5 l st P = sw_ex cf b_X20_order [sw_nw 24 [.int 0, .null, .int 0], sw_dup, sw_ci m_J2_init 0, sw_sta 1, sw_ld 2 0, sw_gf 19 3, sw_iz 1 6 [true, true, false, false, false], sw_ld 2 1, sw_ld 2 0, sw_gf 19 2, sw_cv 24 m_J2_addAll 1, sw_pop, sw_ld 2 1, sw_rv 2] l st P := rfl
theorem at_X20_order_6 : sw_at cf b_X20_order 6 l st P = sw_ex cf b_X20_order [sw_ld 2 1, sw_cv 24 m_J2_size 0, sw_ld 2 0, sw_gf 19 2, sw_cv 24 m_J2_size 0, sw_ic 3 11 [false, true, false, false, false], sw_push .null, sw_sta 2, sw_ld 2 0, sw_gf 19 2, sw_cv 24 m_J2_iterator 0, sw_sta 3, sw_goto 7 [true, true, true, true, false]] l st P := rfl
theorem at_X20_order_7 : sw_at cf b_X20_order 7 l st P = sw_ex cf b_X20_order [sw_ld 2 3, sw_cv 25 m_J23_hasNext 0, sw_iz 0 10 [true, true, true, false, false], sw_ld 2 3, sw_cv 25 m_J23_next 0, sw_ct [20], sw_sta 4, sw_ld 2 1, sw_ld 2 4, sw_cv 24 m_J2_contains 1, sw_iz 1 9 [true, true, true, true, false], sw_ld 2 0, sw_ld 2 4, sw_ld 2 1, sw_cv 19 m_X20_isReady 2, sw_iz 0 9 [true, true, true, true, false], sw_ld 2 2, sw_inl true 8 [true, true, false, true, true], sw_ld 2 4, sw_gf 20 5, sw_ld 2 2, sw_gf 20 5, sw_ic 5 9 [true, true, true, true, false], sw_goto 8 [true, true, false, true, true]] l st P := rfl
theorem at_X20_order_8 : sw_at cf b_X20_order 8 l st P = sw_ex cf b_X20_order [sw_ld 2 4, sw_sta 2, sw_goto 9 [true, true, true, true, false]] l st P := rfl
theorem at_X20_order_9 : sw_at cf b_X20_order 9 l st P = sw_ex cf b_X20_order [sw_goto 7 [true, true, true, true, false]] l st P := rfl
theorem at_X20_order_10 : sw_at cf b_X20_order 10 l st P = sw_ex cf b_X20_order [sw_ld 2 1, sw_ld 2 2, sw_cv 24 m_J2_add 1, sw_pop, sw_goto 6 [true, true, false, false, false]] l st P := rfl
theorem at_X20_order_11 : sw_at cf b_X20_order 11 l st P = sw_ex cf b_X20_order [sw_ld 2 1, sw_rv 2] l st P := rfl
theorem M_X20_isReady (d : Nat) (as : List Value) (P : sw_P) (h : sw_wd 5 as = true) : sw_Z (d + 1) m_X20_isReady as P = sw_at (sw_Z d) b_X20_isReady 0 (sw_en 5 as) [] P := if_pos h
theorem at_X20_isReady_0 : sw_at cf b_X20_isReady 0 l st P = sw_ex cf b_X20_isReady [sw_ld 2 0, sw_gf 19 2, sw_cv 24 m_J2_iterator 0, sw_sta 3, sw_goto 1 [false, true, true, true, false]] l st P := rfl
theorem at_X20_isReady_1 : sw_at cf b_X20_isReady 1 l st P = sw_ex cf b_X20_isReady [sw_ld 2 3, sw_cv 25 m_J23_hasNext 0, sw_iz 0 4 [false, false, false, false, false], sw_ld 2 3, sw_cv 25 m_J23_next 0, sw_ct [20], sw_sta 4, sw_ld 2 4, sw_ld 2 1, sw_iac false 2 [false, true, true, true, true], sw_push (.int 1), sw_rv 1] l st P := rfl
theorem at_X20_isReady_2 : sw_at cf b_X20_isReady 2 l st P = sw_ex cf b_X20_isReady [sw_ld 2 1, sw_ld 2 4, sw_cv 20 m_X21_needs 1, sw_iz 0 3 [false, true, true, true, false], sw_ld 2 2, sw_ld 2 4, sw_cv 24 m_J2_contains 1, sw_iz 1 3 [false, true, true, true, false], sw_push (.int 0), sw_rv 1] l st P := rfl
theorem at_X20_isReady_3 : sw_at cf b_X20_isReady 3 l st P = sw_ex cf b_X20_isReady [sw_goto 1 [false, true, true, true, false]] l st P := rfl
theorem at_X20_isReady_4 : sw_at cf b_X20_isReady 4 l st P = sw_ex cf b_X20_isReady [sw_push (.int 1), sw_rv 1] l st P := rfl
theorem M_X20_enter (d : Nat) (as : List Value) (P : sw_P) (h : sw_wd 8 as = true) : sw_Z (d + 1) m_X20_enter as P = sw_at (sw_Z d) b_X20_enter 0 (sw_en 8 as) [] P := if_pos h
theorem at_X20_enter_0 : sw_at cf b_X20_enter 0 l st P = sw_ex cf b_X20_enter [sw_push (.int 8), sw_na 65, sw_sta 2, sw_push (.int 8), sw_na 65, sw_sta 3, sw_ld 2 0, sw_gf 19 0, sw_gf 13 1, sw_cv 24 m_J2_iterator 0, sw_sta 4, sw_goto 1 [true, false, true, true, true, false, false, false]] l st P := rfl
theorem at_X20_enter_1 : sw_at cf b_X20_enter 1 l st P = sw_ex cf b_X20_enter [sw_ld 2 4, sw_cv 25 m_J23_hasNext 0, sw_iz 0 4 [true, false, true, true, false, false, false, false], sw_ld 2 4, sw_cv 25 m_J23_next 0, sw_ct [24], sw_sta 5, sw_ld 2 5, sw_cv 24 m_J2_iterator 0, sw_sta 6, sw_goto 2 [true, false, true, true, true, false, true, false]] l st P := rfl
theorem at_X20_enter_2 : sw_at cf b_X20_enter 2 l st P = sw_ex cf b_X20_enter [sw_ld 2 6, sw_cv 25 m_J23_hasNext 0, sw_iz 0 3 [true, false, true, true, true, false, false, false], sw_ld 2 6, sw_cv 25 m_J23_next 0, sw_ct [64], sw_sta 7, sw_ld 2 0, sw_ld 2 7, sw_push (.int 1), sw_ald 64, sw_ld 2 2, sw_ld 2 3, sw_cv 19 m_X20_look 3, sw_ld 2 2, sw_ld 2 7, sw_push (.int 0), sw_ald 64, sw_push (.int 1), sw_ast 65, sw_goto 2 [true, false, true, true, true, false, true, false]] l st P := rfl
theorem at_X20_enter_3 : sw_at cf b_X20_enter 3 l st P = sw_ex cf b_X20_enter [sw_goto 1 [true, false, true, true, true, false, false, false]] l st P := rfl
theorem at_X20_enter_4 : sw_at cf b_X20_enter 4 l st P = sw_ex cf b_X20_enter [sw_push (.int 0), sw_sti 4, sw_goto 5 [true, false, true, true, true, false, false, false]] l st P := rfl
theorem at_X20_enter_5 : sw_at cf b_X20_enter 5 l st P = sw_ex cf b_X20_enter [sw_ld 0 4, sw_push (.int 8), sw_ic 3 8 [false, false, false, false, false, false, false, false], sw_ld 2 3, sw_ld 0 4, sw_ald 65, sw_iz 1 6 [true, false, true, true, true, false, false, false], sw_ld 2 2, sw_ld 0 4, sw_ald 65, sw_iz 1 7 [true, false, true, true, true, false, false, false], sw_ld 2 0, sw_gf 19 0, sw_gf 13 4, sw_ld 0 4, sw_cs m_X13_has 2, sw_iz 0 7 [true, false, true, true, true, false, false, false], sw_goto 6 [true, false, true, true, true, false, false, false]] l st P := rfl
theorem at_X20_enter_6 : sw_at cf b_X20_enter 6 l st P = sw_ex cf b_X20_enter [sw_ld 2 0, sw_gf 19 2, sw_nw 20 [.int 0, .int 0, .null, .int 0, .int 0, .int 0], sw_dup, sw_push (.int 0), sw_ld 0 4, sw_push (.int 0), sw_na 64, sw_push (.int 0), sw_push (.int (-1)), sw_ci m_X21_init 5, sw_cv 24 m_J2_add 1, sw_pop, sw_goto 7 [true, false, true, true, true, false, false, false]] l st P := rfl
theorem at_X20_enter_7 : sw_at cf b_X20_enter 7 l st P = sw_ex cf b_X20_enter [sw_inc 4 1, sw_goto 5 [true, false, true, true, true, false, false, false]] l st P := rfl
theorem at_X20_enter_8 : sw_at cf b_X20_enter 8 l st P = sw_ex cf b_X20_enter [sw_ret] l st P := rfl
theorem M_X20_look (d : Nat) (as : List Value) (P : sw_P) (h : sw_wd 5 as = true) : sw_Z (d + 1) m_X20_look as P = sw_at (sw_Z d) b_X20_look 0 (sw_en 5 as) [] P := if_pos h
theorem at_X20_look_0 : sw_at cf b_X20_look 0 l st P = sw_ex cf b_X20_look [sw_ld 2 0, sw_gf 19 0, sw_ld 0 1, sw_cv 13 m_X14_of 1, sw_sta 4, sw_ld 2 4, sw_gf 16 0, sw_push (.int 1), sw_ic 1 1 [true, false, true, true, true], sw_ld 2 2, sw_ld 2 4, sw_gf 16 1, sw_ald 65, sw_iz 1 1 [true, false, true, true, true], sw_ld 2 3, sw_ld 2 4, sw_gf 16 1, sw_push (.int 1), sw_ast 65, sw_goto 1 [true, false, true, true, true]] l st P := rfl
theorem at_X20_look_1 : sw_at cf b_X20_look 1 l st P = sw_ex cf b_X20_look [sw_ld 2 4, sw_cv 16 m_X17_isOfTwo 0, sw_iz 1 2 [true, false, true, true, true], sw_ret] l st P := rfl
theorem at_X20_look_2 : sw_at cf b_X20_look 2 l st P = sw_ex cf b_X20_look [sw_ld 2 0, sw_ld 2 4, sw_gf 16 1, sw_ld 2 2, sw_ld 2 3, sw_cv 19 m_X20_look 3, sw_ld 2 0, sw_ld 2 4, sw_gf 16 2, sw_ld 2 2, sw_ld 2 3, sw_cv 19 m_X20_look 3, sw_ret] l st P := rfl
theorem M_X21_init (d : Nat) (as : List Value) (P : sw_P) (h : sw_wd 6 as = true) : sw_Z (d + 1) m_X21_init as P = sw_at (sw_Z d) b_X21_init 0 (sw_en 6 as) [] P := if_pos h
theorem at_X21_init_0 : sw_at cf b_X21_init 0 l st P = sw_ex cf b_X21_init [sw_ld 2 0, sw_oin, sw_ld 2 0, sw_ld 0 1, sw_pf 20 0 0, sw_ld 2 0, sw_ld 0 2, sw_pf 20 1 0, sw_ld 2 0, sw_ld 2 3, sw_pf 20 2 2, sw_ld 2 0, sw_ld 0 4, sw_pf 20 3 0, sw_ld 2 0, sw_ld 0 5, sw_pf 20 4 0, sw_ret] l st P := rfl
theorem M_X21_needs (d : Nat) (as : List Value) (P : sw_P) (h : sw_wd 2 as = true) : sw_Z (d + 1) m_X21_needs as P = sw_at (sw_Z d) b_X21_needs 0 (sw_en 2 as) [] P := if_pos h
theorem at_X21_needs_0 : sw_at cf b_X21_needs 0 l st P = sw_ex cf b_X21_needs [sw_ld 2 0, sw_ld 2 1, sw_gf 20 1, sw_cv 20 m_X21_reads 1, sw_iz 1 1 [false, false], sw_ld 2 1, sw_ld 2 0, sw_gf 20 1, sw_cv 20 m_X21_reads 1, sw_iz 1 1 [false, false], sw_ld 2 0, sw_gf 20 1, sw_ld 2 1, sw_gf 20 1, sw_ic 0 1 [false, false], sw_ld 2 0, sw_gf 20 0, sw_push (.int 9), sw_ic 1 2 [false, false], sw_ld 2 1, sw_gf 20 0, sw_push (.int 9), sw_ic 1 2 [false, false], sw_goto 1 [false, false]] l st P := rfl
theorem at_X21_needs_1 : sw_at cf b_X21_needs 1 l st P = sw_ex cf b_X21_needs [sw_push (.int 1), sw_goto 3 [false, false]] l st P := rfl
theorem at_X21_needs_2 : sw_at cf b_X21_needs 2 l st P = sw_ex cf b_X21_needs [sw_push (.int 0), sw_goto 3 [false, false]] l st P := rfl
theorem at_X21_needs_3 : sw_at cf b_X21_needs 3 l st P = sw_ex cf b_X21_needs [sw_rv 1] l st P := rfl
theorem M_X21_reads (d : Nat) (as : List Value) (P : sw_P) (h : sw_wd 6 as = true) : sw_Z (d + 1) m_X21_reads as P = sw_at (sw_Z d) b_X21_reads 0 (sw_en 6 as) [] P := if_pos h
theorem at_X21_reads_0 : sw_at cf b_X21_reads 0 l st P = sw_ex cf b_X21_reads [sw_ld 2 0, sw_gf 20 2, sw_sta 2, sw_ld 2 2, sw_al, sw_sti 3, sw_push (.int 0), sw_sti 4, sw_goto 1 [false, true, true, true, true, false]] l st P := rfl
theorem at_X21_reads_1 : sw_at cf b_X21_reads 1 l st P = sw_ex cf b_X21_reads [sw_ld 0 4, sw_ld 0 3, sw_ic 3 3 [false, false, false, false, false, false], sw_ld 2 2, sw_ld 0 4, sw_ald 64, sw_sti 5, sw_ld 0 5, sw_ld 0 1, sw_ic 1 2 [false, true, true, true, true, false], sw_push (.int 1), sw_rv 1] l st P := rfl
theorem at_X21_reads_2 : sw_at cf b_X21_reads 2 l st P = sw_ex cf b_X21_reads [sw_inc 4 1, sw_goto 1 [false, true, true, true, true, false]] l st P := rfl
theorem at_X21_reads_3 : sw_at cf b_X21_reads 3 l st P = sw_ex cf b_X21_reads [sw_push (.int 0), sw_rv 1] l st P := rfl
theorem M_X22_init (d : Nat) (as : List Value) (P : sw_P) (h : sw_wd 2 as = true) : sw_Z (d + 1) m_X22_init as P = sw_at (sw_Z d) b_X22_init 0 (sw_en 2 as) [] P := if_pos h
theorem at_X22_init_0 : sw_at cf b_X22_init 0 l st P = sw_ex cf b_X22_init [sw_ld 2 0, sw_oin, sw_ld 2 0, sw_push (.int (-1)), sw_pf 21 1 0, sw_ld 2 0, sw_push (.int (-1)), sw_pf 21 6 0, sw_ld 2 0, sw_push (.int (-1)), sw_pf 21 7 0, sw_ld 2 0, sw_push (.int (-1)), sw_pf 21 10 0, sw_ld 2 0, sw_ld 0 1, sw_pf 21 0 0, sw_ret] l st P := rfl
theorem M_X22_isIn (d : Nat) (as : List Value) (P : sw_P) (h : sw_wd 1 as = true) : sw_Z (d + 1) m_X22_isIn as P = sw_at (sw_Z d) b_X22_isIn 0 (sw_en 1 as) [] P := if_pos h
theorem at_X22_isIn_0 : sw_at cf b_X22_isIn 0 l st P = sw_ex cf b_X22_isIn [sw_ld 2 0, sw_gf 21 1, sw_push (.int (-1)), sw_ic 0 1 [false], sw_push (.int 1), sw_goto 2 [false]] l st P := rfl
theorem at_X22_isIn_1 : sw_at cf b_X22_isIn 1 l st P = sw_ex cf b_X22_isIn [sw_push (.int 0), sw_goto 2 [false]] l st P := rfl
theorem at_X22_isIn_2 : sw_at cf b_X22_isIn 2 l st P = sw_ex cf b_X22_isIn [sw_rv 1] l st P := rfl
theorem M_X22_goesOver (d : Nat) (as : List Value) (P : sw_P) (h : sw_wd 2 as = true) : sw_Z (d + 1) m_X22_goesOver as P = sw_at (sw_Z d) b_X22_goesOver 0 (sw_en 2 as) [] P := if_pos h
theorem at_X22_goesOver_0 : sw_at cf b_X22_goesOver 0 l st P = sw_ex cf b_X22_goesOver [sw_ld 2 0, sw_gf 21 1, sw_ld 0 1, sw_ic 3 1 [false, false], sw_ld 0 1, sw_ld 2 0, sw_gf 21 2, sw_ic 3 1 [false, false], sw_push (.int 1), sw_goto 2 [false, false]] l st P := rfl
theorem at_X22_goesOver_1 : sw_at cf b_X22_goesOver 1 l st P = sw_ex cf b_X22_goesOver [sw_push (.int 0), sw_goto 2 [false, false]] l st P := rfl
theorem at_X22_goesOver_2 : sw_at cf b_X22_goesOver 2 l st P = sw_ex cf b_X22_goesOver [sw_rv 1] l st P := rfl
theorem M_X22_isSpilled (d : Nat) (as : List Value) (P : sw_P) (h : sw_wd 1 as = true) : sw_Z (d + 1) m_X22_isSpilled as P = sw_at (sw_Z d) b_X22_isSpilled 0 (sw_en 1 as) [] P := if_pos h
theorem at_X22_isSpilled_0 : sw_at cf b_X22_isSpilled 0 l st P = sw_ex cf b_X22_isSpilled [sw_ld 2 0, sw_cv 21 m_X22_isIn 0, sw_iz 0 1 [false], sw_ld 2 0, sw_gf 21 6, sw_push (.int (-1)), sw_ic 1 1 [false], sw_push (.int 1), sw_goto 2 [false]] l st P := rfl
theorem at_X22_isSpilled_1 : sw_at cf b_X22_isSpilled 1 l st P = sw_ex cf b_X22_isSpilled [sw_push (.int 0), sw_goto 2 [false]] l st P := rfl
theorem at_X22_isSpilled_2 : sw_at cf b_X22_isSpilled 2 l st P = sw_ex cf b_X22_isSpilled [sw_rv 1] l st P := rfl
theorem M_X22_meets (d : Nat) (as : List Value) (P : sw_P) (h : sw_wd 2 as = true) : sw_Z (d + 1) m_X22_meets as P = sw_at (sw_Z d) b_X22_meets 0 (sw_en 2 as) [] P := if_pos h
theorem at_X22_meets_0 : sw_at cf b_X22_meets 0 l st P = sw_ex cf b_X22_meets [sw_ld 2 0, sw_gf 21 1, sw_ld 2 1, sw_gf 21 2, sw_ic 4 1 [false, false], sw_ld 2 1, sw_gf 21 1, sw_ld 2 0, sw_gf 21 2, sw_ic 4 1 [false, false], sw_push (.int 1), sw_goto 2 [false, false]] l st P := rfl
theorem at_X22_meets_1 : sw_at cf b_X22_meets 1 l st P = sw_ex cf b_X22_meets [sw_push (.int 0), sw_goto 2 [false, false]] l st P := rfl
theorem at_X22_meets_2 : sw_at cf b_X22_meets 2 l st P = sw_ex cf b_X22_meets [sw_rv 1] l st P := rfl
theorem M_X23_init (d : Nat) (as : List Value) (P : sw_P) (h : sw_wd 3 as = true) : sw_Z (d + 1) m_X23_init as P = sw_at (sw_Z d) b_X23_init 0 (sw_en 3 as) [] P := if_pos h
theorem at_X23_init_0 : sw_at cf b_X23_init 0 l st P = sw_ex cf b_X23_init [sw_ld 2 0, sw_ld 2 1, sw_pf 22 2 2, sw_ld 2 0, sw_oin, sw_ld 2 0, sw_ld 0 2, sw_pf 22 0 0, sw_ld 2 0, sw_ld 2 1, sw_gf 18 2, sw_ld 0 2, sw_cv 24 m_J2_get 1, sw_ct [20], sw_pf 22 1 2, sw_ret] l st P := rfl
theorem M_X23_lay (d : Nat) (as : List Value) (P : sw_P) (h : sw_wd 6 as = true) : sw_Z (d + 1) m_X23_lay as P = sw_at (sw_Z d) b_X23_lay 0 (sw_en 6 as) [] P := if_pos h
theorem at_X23_lay_0 : sw_at cf b_X23_lay 0 l st P = sw_ex cf b_X23_lay [sw_ld 2 0, sw_gf 22 2, sw_gf 18 3, sw_ld 2 0, sw_gf 22 1, sw_gf 20 1, sw_ald 68, sw_sta 1, sw_ld 2 0, sw_gf 22 1, sw_gf 20 0, sw_push (.int 9), sw_ic 1 1 [true, true, false, false, false, false], sw_ld 2 0, sw_ld 2 1, sw_cv 22 m_X23_layCall 1, sw_ret] l st P := rfl
theorem at_X23_lay_1 : sw_at cf b_X23_lay 1 l st P = sw_ex cf b_X23_lay [sw_ld 2 0, sw_gf 22 1, sw_gf 20 0, sw_iz 1 2 [true, true, false, false, false, false], sw_ld 2 1, sw_gf 21 6, sw_push (.int (-1)), sw_ic 1 2 [true, true, false, false, false, false], sw_ld 2 1, sw_gf 21 8, sw_iz 0 2 [true, true, false, false, false, false], sw_ret] l st P := rfl
theorem at_X23_lay_2 : sw_at cf b_X23_lay 2 l st P = sw_ex cf b_X23_lay [sw_ld 2 0, sw_gf 22 2, sw_gf 18 1, sw_cv 14 m_X15_scratch 0, sw_sti 2, sw_push (.int 3), sw_na 64, sw_sta 3, sw_push (.int 0), sw_sti 4, sw_goto 3 [true, true, true, true, true, false]] l st P := rfl
theorem at_X23_lay_3 : sw_at cf b_X23_lay 3 l st P = sw_ex cf b_X23_lay [sw_ld 0 4, sw_ld 2 0, sw_gf 22 1, sw_gf 20 2, sw_al, sw_ic 3 7 [true, true, true, true, false, false], sw_ld 2 0, sw_gf 22 2, sw_gf 18 3, sw_ld 2 0, sw_gf 22 1, sw_gf 20 2, sw_ld 0 4, sw_ald 64, sw_ald 68, sw_sta 5, sw_ld 2 3, sw_ld 0 4, sw_ld 2 5, sw_gf 21 6, sw_push (.int (-1)), sw_ic 1 4 [true, true, true, true, true, true], sw_ld 0 2, sw_ld 0 4, sw_ii (fun x y => x + y), sw_goto 5 [true, true, true, true, true, true]] l st P := rfl
theorem at_X23_lay_4 : sw_at cf b_X23_lay 4 l st P = sw_ex cf b_X23_lay [sw_ld 2 5, sw_gf 21 6, sw_goto 5 [true, true, true, true, true, true]] l st P := rfl
theorem at_X23_lay_5 : sw_at cf b_X23_lay 5 l st P = sw_ex cf b_X23_lay [sw_ast 64, sw_ld 2 5, sw_gf 21 6, sw_push (.int (-1)), sw_ic 1 6 [true, true, true, true, true, false], sw_ld 2 0, sw_ld 2 5, sw_ld 0 2, sw_ld 0 4, sw_ii (fun x y => x + y), sw_cv 22 m_X23_bring 2, sw_goto 6 [true, true, true, true, true, false]] l st P := rfl
theorem at_X23_lay_6 : sw_at cf b_X23_lay 6 l st P = sw_ex cf b_X23_lay [sw_inc 4 1, sw_goto 3 [true, true, true, true, true, false]] l st P := rfl
theorem at_X23_lay_7 : sw_at cf b_X23_lay 7 l st P = sw_ex cf b_X23_lay [sw_ld 2 1, sw_gf 21 6, sw_push (.int (-1)), sw_ic 1 8 [true, true, true, true, false, false], sw_ld 0 2, sw_goto 9 [true, true, true, true, false, false]] l st P := rfl
theorem at_X23_lay_8 : sw_at cf b_X23_lay 8 l st P = sw_ex cf b_X23_lay [sw_ld 2 1, sw_gf 21 6, sw_goto 9 [true, true, true, true, false, false]] l st P := rfl
theorem at_X23_lay_9 : sw_at cf b_X23_lay 9 l st P = sw_ex cf b_X23_lay [sw_sti 4, sw_ld 2 0, sw_gf 22 1, sw_gf 20 0, sw_iz 1 10 [true, true, true, true, true, false], sw_ld 2 0, sw_push (.int 0), sw_ld 0 4, sw_ld 2 0, sw_gf 22 1, sw_gf 20 3, sw_push (.int 0), sw_push (.int 0), sw_cv 22 m_X23_put 5, sw_goto 13 [true, true, true, false, false, false]] l st P := rfl
theorem at_X23_lay_10 : sw_at cf b_X23_lay 10 l st P = sw_ex cf b_X23_lay [sw_ld 2 0, sw_gf 22 1, sw_gf 20 0, sw_push (.int 1), sw_ic 1 11 [true, true, true, true, true, false], sw_ld 2 0, sw_push (.int 1), sw_ld 0 4, sw_ld 2 3, sw_push (.int 0), sw_ald 64, sw_push (.int 0), sw_push (.int 0), sw_cv 22 m_X23_put 5, sw_goto 13 [true, true, true, false, false, false]] l st P := rfl
theorem at_X23_lay_11 : sw_at cf b_X23_lay 11 l st P = sw_ex cf b_X23_lay [sw_ld 2 0, sw_gf 22 2, sw_gf 18 1, sw_gf 14 4, sw_iz 0 12 [true, true, true, true, true, false], sw_ld 2 0, sw_ld 0 4, sw_ld 2 3, sw_cv 22 m_X23_layTwo 2, sw_goto 13 [true, true, true, false, false, false]] l st P := rfl
theorem at_X23_lay_12 : sw_at cf b_X23_lay 12 l st P = sw_ex cf b_X23_lay [sw_ld 2 0, sw_ld 0 4, sw_ld 2 3, sw_push (.int 0), sw_ald 64, sw_ld 2 3, sw_push (.int 1), sw_ald 64, sw_ld 2 3, sw_push (.int 2), sw_ald 64, sw_cv 22 m_X23_layOp 4, sw_goto 13 [true, true, true, false, false, false]] l st P := rfl
theorem at_X23_lay_13 : sw_at cf b_X23_lay 13 l st P = sw_ex cf b_X23_lay [sw_ld 2 0, sw_ld 2 1, sw_ld 0 2, sw_cv 22 m_X23_store 2, sw_ret] l st P := rfl
theorem M_X23_layCall (d : Nat) (as : List Value) (P : sw_P) (h : sw_wd 5 as = true) : sw_Z (d + 1) m_X23_layCall as P = sw_at (sw_Z d) b_X23_layCall 0 (sw_en 5 as) [] P := if_pos h
theorem at_X23_layCall_0 : sw_at cf b_X23_layCall 0 l st P = sw_ex cf b_X23_layCall [sw_ld 2 0, sw_gf 22 2, sw_gf 18 3, sw_ld 2 0, sw_gf 22 1, sw_gf 20 2, sw_push (.int 0), sw_ald 64, sw_ald 68, sw_sta 2, sw_ld 2 0, sw_gf 22 2, sw_gf 18 3, sw_ld 2 0, sw_gf 22 1, sw_gf 20 2, sw_push (.int 1), sw_ald 64, sw_ald 68, sw_sta 3, sw_ld 2 0, sw_gf 22 2, sw_gf 18 1, sw_cv 14 m_X15_scratch 0, sw_sti 4, sw_ld 2 2, sw_gf 21 6, sw_push (.int 1), sw_ic 1 1 [true, true, true, true, false], sw_ld 2 3, sw_gf 21 6, sw_iz 1 1 [true, true, true, true, false], sw_ld 2 0, sw_push (.int 1), sw_ld 0 4, sw_push (.int 0), sw_push (.int 0), sw_push (.int 0), sw_cv 22 m_X23_put 5, sw_ld 2 0, sw_push (.int 1), sw_push (.int 0), sw_push (.int 1), sw_push (.int 0), sw_push (.int 0), sw_cv 22 m_X23_put 5, sw_ld 2 0, sw_push (.int 1), sw_push (.int 1), sw_ld 0 4, sw_push (.int 0), sw_push (.int 0), sw_cv 22 m_X23_put 5, sw_goto 3 [true, true, false, false, false]] l st P := rfl
theorem at_X23_layCall_1 : sw_at cf b_X23_layCall 1 l st P = sw_ex cf b_X23_layCall [sw_ld 2 3, sw_gf 21 6, sw_iz 1 2 [true, true, true, true, false], sw_ld 2 0, sw_push (.int 1), sw_push (.int 1), sw_push (.int 0), sw_push (.int 0), sw_push (.int 0), sw_cv 22 m_X23_put 5, sw_ld 2 0, sw_ld 2 2, sw_push (.int 0), sw_cv 22 m_X23_bring 2, sw_goto 3 [true, true, false, false, false]] l st P := rfl
theorem at_X23_layCall_2 : sw_at cf b_X23_layCall 2 l st P = sw_ex cf b_X23_layCall [sw_ld 2 0, sw_ld 2 2, sw_push (.int 0), sw_cv 22 m_X23_bring 2, sw_ld 2 0, sw_ld 2 3, sw_push (.int 1), sw_cv 22 m_X23_bring 2, sw_goto 3 [true, true, false, false, false]] l st P := rfl
theorem at_X23_layCall_3 : sw_at cf b_X23_layCall 3 l st P = sw_ex cf b_X23_layCall [sw_ld 2 0, sw_push (.int 9), sw_push (.int 0), sw_push (.int 0), sw_push (.int 0), sw_push (.int 0), sw_cv 22 m_X23_put 5, sw_ld 2 1, sw_gf 21 6, sw_push (.int (-1)), sw_ic 0 4 [true, true, false, false, false], sw_ld 2 0, sw_push (.int 1), sw_ld 2 1, sw_gf 21 6, sw_push (.int 0), sw_push (.int 0), sw_push (.int 0), sw_cv 22 m_X23_put 5, sw_goto 4 [true, true, false, false, false]] l st P := rfl
theorem at_X23_layCall_4 : sw_at cf b_X23_layCall 4 l st P = sw_ex cf b_X23_layCall [sw_ld 2 0, sw_ld 2 1, sw_push (.int 0), sw_cv 22 m_X23_store 2, sw_ret] l st P := rfl
theorem M_X23_put (d : Nat) (as : List Value) (P : sw_P) (h : sw_wd 6 as = true) : sw_Z (d + 1) m_X23_put as P = sw_at (sw_Z d) b_X23_put 0 (sw_en 6 as) [] P := if_pos h
theorem at_X23_put_0 : sw_at cf b_X23_put 0 l st P = sw_ex cf b_X23_put [sw_ld 0 1, sw_push (.int 1), sw_ic 1 1 [true, true, true, true, true, true], sw_ld 0 2, sw_ld 0 3, sw_ic 1 1 [true, true, true, true, true, true], sw_ret] l st P := rfl
theorem at_X23_put_1 : sw_at cf b_X23_put 1 l st P = sw_ex cf b_X23_put [sw_ld 2 0, sw_gf 22 2, sw_gf 18 7, sw_push (.int 6), sw_na 64, sw_dup, sw_push (.int 0), sw_ld 0 1, sw_ast 64, sw_dup, sw_push (.int 1), sw_ld 0 2, sw_ast 64, sw_dup, sw_push (.int 2), sw_ld 0 3, sw_ast 64, sw_dup, sw_push (.int 3), sw_ld 0 4, sw_ast 64, sw_dup, sw_push (.int 4), sw_ld 0 5, sw_ast 64, sw_dup, sw_push (.int 5), sw_ld 2 0, sw_gf 22 0, sw_ast 64, sw_cv 24 m_J2_add 1, sw_pop, sw_ret] l st P := rfl
theorem M_X23_bring (d : Nat) (as : List Value) (P : sw_P) (h : sw_wd 3 as = true) : sw_Z (d + 1) m_X23_bring as P = sw_at (sw_Z d) b_X23_bring 0 (sw_en 3 as) [] P := if_pos h
theorem at_X23_bring_0 : sw_at cf b_X23_bring 0 l st P = sw_ex cf b_X23_bring [sw_ld 2 1, sw_gf 21 6, sw_push (.int (-1)), sw_ic 0 1 [true, true, true], sw_ld 2 0, sw_push (.int 1), sw_ld 0 2, sw_ld 2 1, sw_gf 21 6, sw_push (.int 0), sw_push (.int 0), sw_cv 22 m_X23_put 5, sw_goto 3 [false, false, false]] l st P := rfl
theorem at_X23_bring_1 : sw_at cf b_X23_bring 1 l st P = sw_ex cf b_X23_bring [sw_ld 2 1, sw_gf 21 8, sw_iz 0 2 [true, true, true], sw_ld 2 0, sw_push (.int 0), sw_ld 0 2, sw_ld 2 1, sw_gf 21 9, sw_push (.int 0), sw_push (.int 0), sw_cv 22 m_X23_put 5, sw_goto 3 [false, false, false]] l st P := rfl
theorem at_X23_bring_2 : sw_at cf b_X23_bring 2 l st P = sw_ex cf b_X23_bring [sw_ld 2 0, sw_push (.int 7), sw_ld 0 2, sw_ld 2 1, sw_gf 21 7, sw_push (.int 0), sw_push (.int 0), sw_cv 22 m_X23_put 5, sw_goto 3 [false, false, false]] l st P := rfl
theorem at_X23_bring_3 : sw_at cf b_X23_bring 3 l st P = sw_ex cf b_X23_bring [sw_ret] l st P := rfl
theorem M_X23_store (d : Nat) (as : List Value) (P : sw_P) (h : sw_wd 3 as = true) : sw_Z (d + 1) m_X23_store as P = sw_at (sw_Z d) b_X23_store 0 (sw_en 3 as) [] P := if_pos h
theorem at_X23_store_0 : sw_at cf b_X23_store 0 l st P = sw_ex cf b_X23_store [sw_ld 2 1, sw_gf 21 6, sw_push (.int (-1)), sw_ic 1 1 [false, false, false], sw_ld 2 0, sw_push (.int 8), sw_ld 0 2, sw_ld 2 1, sw_gf 21 7, sw_push (.int 0), sw_push (.int 0), sw_cv 22 m_X23_put 5, sw_goto 1 [false, false, false]] l st P := rfl
theorem at_X23_store_1 : sw_at cf b_X23_store 1 l st P = sw_ex cf b_X23_store [sw_ret] l st P := rfl
theorem M_X23_layTwo (d : Nat) (as : List Value) (P : sw_P) (h : sw_wd 6 as = true) : sw_Z (d + 1) m_X23_layTwo as P = sw_at (sw_Z d) b_X23_layTwo 0 (sw_en 6 as) [] P := if_pos h
theorem at_X23_layTwo_0 : sw_at cf b_X23_layTwo 0 l st P = sw_ex cf b_X23_layTwo [sw_ld 2 0, sw_gf 22 2, sw_gf 18 1, sw_cv 14 m_X15_scratch 0, sw_sti 3, sw_ld 2 0, sw_gf 22 1, sw_gf 20 0, sw_push (.int 5), sw_ic 0 1 [true, true, true, true, false, false], sw_ld 0 1, sw_ld 2 2, sw_push (.int 1), sw_ald 64, sw_ic 1 1 [true, true, true, true, false, false], sw_push (.int 1), sw_goto 2 [true, true, true, true, false, false]] l st P := rfl
theorem at_X23_layTwo_1 : sw_at cf b_X23_layTwo 1 l st P = sw_ex cf b_X23_layTwo [sw_push (.int 0), sw_goto 2 [true, true, true, true, false, false]] l st P := rfl
theorem at_X23_layTwo_2 : sw_at cf b_X23_layTwo 2 l st P = sw_ex cf b_X23_layTwo [sw_sti 4, sw_ld 2 0, sw_gf 22 1, sw_gf 20 0, sw_push (.int 6), sw_ic 1 3 [true, true, true, true, true, false], sw_ld 0 1, sw_ld 2 2, sw_push (.int 2), sw_ald 64, sw_ic 1 3 [true, true, true, true, true, false], sw_push (.int 1), sw_goto 4 [true, true, true, true, true, false]] l st P := rfl
theorem at_X23_layTwo_3 : sw_at cf b_X23_layTwo 3 l st P = sw_ex cf b_X23_layTwo [sw_push (.int 0), sw_goto 4 [true, true, true, true, true, false]] l st P := rfl
theorem at_X23_layTwo_4 : sw_at cf b_X23_layTwo 4 l st P = sw_ex cf b_X23_layTwo [sw_sti 5, sw_ld 0 1, sw_ld 2 2, sw_push (.int 0), sw_ald 64, sw_ic 1 5 [true, true, true, true, true, true], sw_ld 2 0, sw_ld 0 1, sw_ld 2 2, sw_push (.int 0), sw_ald 64, sw_ld 2 2, sw_push (.int 1), sw_ald 64, sw_ld 2 2, sw_push (.int 2), sw_ald 64, sw_cv 22 m_X23_layOp 4, sw_goto 10 [false, false, false, false, false, false]] l st P := rfl
theorem at_X23_layTwo_5 : sw_at cf b_X23_layTwo 5 l st P = sw_ex cf b_X23_layTwo [sw_ld 0 4, sw_iz 0 7 [true, true, true, true, true, true], sw_ld 2 0, sw_gf 22 1, sw_gf 20 0, sw_push (.int 2), sw_ic 0 6 [true, true, true, false, false, false], sw_ld 2 0, sw_gf 22 1, sw_gf 20 0, sw_push (.int 4), sw_ic 1 7 [true, true, true, true, true, true], sw_goto 6 [true, true, true, false, false, false]] l st P := rfl
theorem at_X23_layTwo_6 : sw_at cf b_X23_layTwo 6 l st P = sw_ex cf b_X23_layTwo [sw_ld 2 0, sw_ld 0 1, sw_ld 2 2, sw_push (.int 1), sw_ald 64, sw_ld 2 2, sw_push (.int 0), sw_ald 64, sw_push (.int 0), sw_cv 22 m_X23_layOp 4, sw_goto 10 [false, false, false, false, false, false]] l st P := rfl
theorem at_X23_layTwo_7 : sw_at cf b_X23_layTwo 7 l st P = sw_ex cf b_X23_layTwo [sw_ld 0 4, sw_iz 1 8 [true, true, true, true, false, false], sw_ld 0 5, sw_iz 0 9 [true, true, true, false, false, false], sw_goto 8 [true, true, true, true, false, false]] l st P := rfl
theorem at_X23_layTwo_8 : sw_at cf b_X23_layTwo 8 l st P = sw_ex cf b_X23_layTwo [sw_ld 2 0, sw_push (.int 1), sw_ld 0 3, sw_ld 2 2, sw_push (.int 0), sw_ald 64, sw_push (.int 0), sw_push (.int 0), sw_cv 22 m_X23_put 5, sw_ld 2 0, sw_ld 0 3, sw_ld 0 3, sw_ld 2 2, sw_push (.int 1), sw_ald 64, sw_ld 2 2, sw_push (.int 2), sw_ald 64, sw_cv 22 m_X23_layOp 4, sw_ld 2 0, sw_push (.int 1), sw_ld 0 1, sw_ld 0 3, sw_push (.int 0), sw_push (.int 0), sw_cv 22 m_X23_put 5, sw_goto 10 [false, false, false, false, false, false]] l st P := rfl
theorem at_X23_layTwo_9 : sw_at cf b_X23_layTwo 9 l st P = sw_ex cf b_X23_layTwo [sw_ld 2 0, sw_push (.int 1), sw_ld 0 1, sw_ld 2 2, sw_push (.int 0), sw_ald 64, sw_push (.int 0), sw_push (.int 0), sw_cv 22 m_X23_put 5, sw_ld 2 0, sw_ld 0 1, sw_ld 0 1, sw_ld 2 2, sw_push (.int 1), sw_ald 64, sw_ld 2 2, sw_push (.int 2), sw_ald 64, sw_cv 22 m_X23_layOp 4, sw_goto 10 [false, false, false, false, false, false]] l st P := rfl
theorem at_X23_layTwo_10 : sw_at cf b_X23_layTwo 10 l st P = sw_ex cf b_X23_layTwo [sw_ret] l st P := rfl
theorem M_X23_layOp (d : Nat) (as : List Value) (P : sw_P) (h : sw_wd 5 as = true) : sw_Z (d + 1) m_X23_layOp as P = sw_at (sw_Z d) b_X23_layOp 0 (sw_en 5 as) [] P := if_pos h
theorem at_X23_layOp_0 : sw_at cf b_X23_layOp 0 l st P = sw_ex cf b_X23_layOp [sw_ld 2 0, sw_gf 22 1, sw_gf 20 0, sw_push (.int 5), sw_ic 1 1 [true, true, true, true, true], sw_ld 2 0, sw_push (.int 5), sw_ld 0 1, sw_ld 0 2, sw_ld 2 0, sw_gf 22 1, sw_gf 20 3, sw_push (.int 0), sw_cv 22 m_X23_put 5, sw_goto 4 [false, false, false, false, false]] l st P := rfl
theorem at_X23_layOp_1 : sw_at cf b_X23_layOp 1 l st P = sw_ex cf b_X23_layOp [sw_ld 2 0, sw_ld 2 0, sw_gf 22 1, sw_gf 20 0, sw_ld 0 1, sw_ld 0 2, sw_ld 0 3, sw_ld 2 0, sw_gf 22 1, sw_gf 20 0, sw_push (.int 6), sw_ic 1 2 [false, false, false, false, false], sw_ld 0 4, sw_goto 3 [false, false, false, false, false]] l st P := rfl
theorem at_X23_layOp_2 : sw_at cf b_X23_layOp 2 l st P = sw_ex cf b_X23_layOp [sw_push (.int 0), sw_goto 3 [false, false, false, false, false]] l st P := rfl
theorem at_X23_layOp_3 : sw_at cf b_X23_layOp 3 l st P = sw_ex cf b_X23_layOp [sw_cv 22 m_X23_put 5, sw_goto 4 [false, false, false, false, false]] l st P := rfl
theorem at_X23_layOp_4 : sw_at cf b_X23_layOp 4 l st P = sw_ex cf b_X23_layOp [sw_ret] l st P := rfl
theorem M_X24_init (d : Nat) (as : List Value) (P : sw_P) (h : sw_wd 2 as = true) : sw_Z (d + 1) m_X24_init as P = sw_at (sw_Z d) b_X24_init 0 (sw_en 2 as) [] P := if_pos h
theorem at_X24_init_0 : sw_at cf b_X24_init 0 l st P = sw_ex cf b_X24_init [sw_ld 2 0, sw_ld 2 1, sw_pf 23 3 2, sw_ld 2 0, sw_oin, sw_ld 2 0, sw_ld 2 0, sw_gf 23 3, sw_gf 18 1, sw_gf 14 0, sw_na 64, sw_pf 23 0 2, sw_ret] l st P := rfl
theorem M_X24_go (d : Nat) (as : List Value) (P : sw_P) (h : sw_wd 3 as = true) : sw_Z (d + 1) m_X24_go as P = sw_at (sw_Z d) b_X24_go 0 (sw_en 3 as) [] P := if_pos h
theorem at_X24_go_0 : sw_at cf b_X24_go 0 l st P = sw_ex cf b_X24_go [sw_ld 2 0, sw_gf 23 3, sw_ld 2 0, sw_gf 23 3, sw_gf 18 1, sw_gf 14 0, sw_na 64, sw_pf 18 11 2, sw_ld 2 0, sw_gf 23 3, sw_ld 2 0, sw_gf 23 3, sw_gf 18 6, sw_na 64, sw_pf 18 12 2, sw_ld 2 0, sw_gf 23 3, sw_ld 2 0, sw_gf 23 3, sw_gf 18 7, sw_cv 24 m_J2_size 0, sw_na 64, sw_pf 18 13 2, sw_push (.int 0), sw_sti 1, sw_goto 1 [true, true, false]] l st P := rfl
theorem at_X24_go_1 : sw_at cf b_X24_go 1 l st P = sw_ex cf b_X24_go [sw_ld 0 1, sw_ld 2 0, sw_gf 23 3, sw_gf 18 13, sw_al, sw_ic 3 2 [true, false, false], sw_ld 2 0, sw_gf 23 3, sw_gf 18 13, sw_ld 0 1, sw_push (.int (-1)), sw_ast 64, sw_inc 1 1, sw_goto 1 [true, true, false]] l st P := rfl
theorem at_X24_go_2 : sw_at cf b_X24_go 2 l st P = sw_ex cf b_X24_go [sw_ld 2 0, sw_push (.int (-1)), sw_cv 23 m_X24_pass 1, sw_push (.int 0), sw_sti 1, sw_goto 3 [true, true, false]] l st P := rfl
theorem at_X24_go_3 : sw_at cf b_X24_go 3 l st P = sw_ex cf b_X24_go [sw_ld 0 1, sw_push (.int 4), sw_ic 3 6 [true, false, false], sw_push (.int 0), sw_sti 2, sw_goto 4 [true, true, true]] l st P := rfl
theorem at_X24_go_4 : sw_at cf b_X24_go 4 l st P = sw_ex cf b_X24_go [sw_ld 0 2, sw_ld 2 0, sw_gf 23 3, sw_gf 18 0, sw_gf 13 2, sw_ld 0 1, sw_ald 64, sw_ic 3 5 [true, true, false], sw_ld 2 0, sw_ld 0 1, sw_cv 23 m_X24_pass 1, sw_inc 2 1, sw_goto 4 [true, true, true]] l st P := rfl
theorem at_X24_go_5 : sw_at cf b_X24_go 5 l st P = sw_ex cf b_X24_go [sw_inc 1 1, sw_goto 3 [true, true, false]] l st P := rfl
theorem at_X24_go_6 : sw_at cf b_X24_go 6 l st P = sw_ex cf b_X24_go [sw_ld 2 0, sw_gf 23 3, sw_ld 2 0, sw_gf 23 2, sw_pf 18 9 0, sw_ret] l st P := rfl
theorem M_X24_pass (d : Nat) (as : List Value) (P : sw_P) (h : sw_wd 3 as = true) : sw_Z (d + 1) m_X24_pass as P = sw_at (sw_Z d) b_X24_pass 0 (sw_en 3 as) [] P := if_pos h
theorem at_X24_pass_0 : sw_at cf b_X24_pass 0 l st P = sw_ex cf b_X24_pass [sw_push (.int 0), sw_sti 2, sw_goto 1 [true, true, true]] l st P := rfl
theorem at_X24_pass_1 : sw_at cf b_X24_pass 1 l st P = sw_ex cf b_X24_pass [sw_ld 0 2, sw_ld 2 0, sw_gf 23 3, sw_gf 18 7, sw_cv 24 m_J2_size 0, sw_ic 3 3 [false, false, false], sw_ld 2 0, sw_gf 23 3, sw_gf 18 2, sw_ld 2 0, sw_gf 23 3, sw_gf 18 7, sw_ld 0 2, sw_cv 24 m_J2_get 1, sw_ct [64], sw_push (.int 5), sw_ald 64, sw_cv 24 m_J2_get 1, sw_ct [20], sw_gf 20 4, sw_ld 0 1, sw_ic 1 2 [true, true, true], sw_ld 2 0, sw_ld 0 2, sw_ld 2 0, sw_gf 23 3, sw_gf 18 7, sw_ld 0 2, sw_cv 24 m_J2_get 1, sw_ct [64], sw_cv 23 m_X24_step 2, sw_goto 2 [true, true, true]] l st P := rfl
theorem at_X24_pass_2 : sw_at cf b_X24_pass 2 l st P = sw_ex cf b_X24_pass [sw_inc 2 1, sw_goto 1 [true, true, true]] l st P := rfl
theorem at_X24_pass_3 : sw_at cf b_X24_pass 3 l st P = sw_ex cf b_X24_pass [sw_ret] l st P := rfl
theorem M_X24_step (d : Nat) (as : List Value) (P : sw_P) (h : sw_wd 4 as = true) : sw_Z (d + 1) m_X24_step as P = sw_at (sw_Z d) b_X24_step 0 (sw_en 4 as) [] P := if_pos h
theorem at_X24_step_0 : sw_at cf b_X24_step 0 l st P = sw_ex cf b_X24_step [sw_ld 2 0, sw_gf 23 1, sw_ld 2 0, sw_ld 2 2, sw_cv 23 m_X24_readyOf 1, sw_mm sw_max, sw_sti 3, sw_ld 2 0, sw_gf 23 3, sw_gf 18 13, sw_ld 0 1, sw_ald 64, sw_push (.int (-1)), sw_ic 1 1 [true, false, true, true], sw_ld 2 0, sw_gf 23 3, sw_gf 18 13, sw_ld 0 1, sw_ld 0 3, sw_ast 64, sw_goto 1 [true, false, true, true]] l st P := rfl
theorem at_X24_step_1 : sw_at cf b_X24_step 1 l st P = sw_ex cf b_X24_step [sw_ld 2 0, sw_gf 23 3, sw_dup, sw_gf 18 10, sw_ld 0 3, sw_ld 2 0, sw_gf 23 1, sw_ii (fun x y => x - y), sw_ii (fun x y => x + y), sw_pf 18 10 0, sw_ld 2 0, sw_ld 0 3, sw_push (.int 1), sw_ii (fun x y => x + y), sw_pf 23 1 0, sw_ld 2 0, sw_ld 0 3, sw_ld 2 0, sw_gf 23 3, sw_gf 18 0, sw_ld 2 2, sw_push (.int 0), sw_ald 64, sw_cv 13 m_X14_latency 1, sw_ii (fun x y => x + y), sw_pf 23 2 0, sw_ld 2 0, sw_gf 23 3, sw_dup, sw_gf 18 8, sw_push (.int 1), sw_ii (fun x y => x + y), sw_pf 18 8 0, sw_ld 2 0, sw_ld 2 2, sw_cv 23 m_X24_work 1, sw_ld 2 2, sw_push (.int 0), sw_ald 64, sw_push (.int 9), sw_ic 1 2 [true, false, true, false], sw_ld 2 0, sw_cv 23 m_X24_lose 0, sw_goto 3 [false, false, false, false]] l st P := rfl
theorem at_X24_step_2 : sw_at cf b_X24_step 2 l st P = sw_ex cf b_X24_step [sw_ld 2 2, sw_push (.int 0), sw_ald 64, sw_push (.int 8), sw_ic 0 3 [false, false, false, false], sw_ld 2 0, sw_gf 23 0, sw_ld 2 2, sw_push (.int 1), sw_ald 64, sw_ld 2 0, sw_gf 23 2, sw_ast 64, sw_goto 3 [false, false, false, false]] l st P := rfl
theorem at_X24_step_3 : sw_at cf b_X24_step 3 l st P = sw_ex cf b_X24_step [sw_ret] l st P := rfl
theorem M_X24_readyOf (d : Nat) (as : List Value) (P : sw_P) (h : sw_wd 2 as = true) : sw_Z (d + 1) m_X24_readyOf as P = sw_at (sw_Z d) b_X24_readyOf 0 (sw_en 2 as) [] P := if_pos h
theorem at_X24_readyOf_0 : sw_at cf b_X24_readyOf 0 l st P = sw_ex cf b_X24_readyOf [sw_ld 2 1, sw_push (.int 0), sw_ald 64, sw_sw [(0, 1, [false, false]), (1, 4, [true, true]), (2, 6, [true, true]), (3, 6, [true, true]), (4, 6, [true, true]), (5, 4, [true, true]), (6, 5, [true, true]), (7, 1, [false, false]), (8, 2, [true, true]), (9, 3, [true, false])] (6, [true, true])] l st P := rfl
theorem at_X24_readyOf_1 : sw_at cf b_X24_readyOf 1 l st P = sw_ex cf b_X24_readyOf [sw_push (.int 0), sw_rv 0] l st P := rfl
theorem at_X24_readyOf_2 : sw_at cf b_X24_readyOf 2 l st P = sw_ex cf b_X24_readyOf [sw_ld 2 0, sw_gf 23 0, sw_ld 2 1, sw_push (.int 1), sw_ald 64, sw_ald 64, sw_rv 0] l st P := rfl
theorem at_X24_readyOf_3 : sw_at cf b_X24_readyOf 3 l st P = sw_ex cf b_X24_readyOf [sw_ld 2 0, sw_gf 23 0, sw_push (.int 0), sw_ald 64, sw_ld 2 0, sw_gf 23 0, sw_push (.int 1), sw_ald 64, sw_mm sw_max, sw_rv 0] l st P := rfl
theorem at_X24_readyOf_4 : sw_at cf b_X24_readyOf 4 l st P = sw_ex cf b_X24_readyOf [sw_ld 2 0, sw_gf 23 0, sw_ld 2 1, sw_push (.int 2), sw_ald 64, sw_ald 64, sw_rv 0] l st P := rfl
theorem at_X24_readyOf_5 : sw_at cf b_X24_readyOf 5 l st P = sw_ex cf b_X24_readyOf [sw_ld 2 0, sw_gf 23 0, sw_ld 2 1, sw_push (.int 2), sw_ald 64, sw_ald 64, sw_ld 2 0, sw_gf 23 0, sw_ld 2 1, sw_push (.int 3), sw_ald 64, sw_ald 64, sw_ld 2 0, sw_gf 23 0, sw_ld 2 1, sw_push (.int 4), sw_ald 64, sw_ald 64, sw_mm sw_max, sw_mm sw_max, sw_rv 0] l st P := rfl
theorem at_X24_readyOf_6 : sw_at cf b_X24_readyOf 6 l st P = sw_ex cf b_X24_readyOf [sw_ld 2 0, sw_gf 23 0, sw_ld 2 1, sw_push (.int 2), sw_ald 64, sw_ald 64, sw_ld 2 0, sw_gf 23 0, sw_ld 2 1, sw_push (.int 3), sw_ald 64, sw_ald 64, sw_mm sw_max, sw_rv 0] l st P := rfl
theorem M_X24_work (d : Nat) (as : List Value) (P : sw_P) (h : sw_wd 3 as = true) : sw_Z (d + 1) m_X24_work as P = sw_at (sw_Z d) b_X24_work 0 (sw_en 3 as) [] P := if_pos h
theorem at_X24_work_0 : sw_at cf b_X24_work 0 l st P = sw_ex cf b_X24_work [sw_ld 2 0, sw_gf 23 3, sw_gf 18 11, sw_sta 2, sw_ld 2 1, sw_push (.int 0), sw_ald 64, sw_sw [(0, 1, [false, true, true]), (1, 2, [false, true, true]), (2, 3, [false, true, true]), (3, 4, [false, true, true]), (4, 5, [false, true, true]), (5, 6, [false, true, true]), (6, 7, [false, true, true]), (7, 8, [true, true, true]), (8, 9, [true, true, true])] (10, [false, false, true])] l st P := rfl
theorem at_X24_work_1 : sw_at cf b_X24_work 1 l st P = sw_ex cf b_X24_work [sw_ld 2 2, sw_ld 2 1, sw_push (.int 1), sw_ald 64, sw_ld 2 1, sw_push (.int 2), sw_ald 64, sw_ast 64, sw_goto 11 [false, false, false]] l st P := rfl
theorem at_X24_work_2 : sw_at cf b_X24_work 2 l st P = sw_ex cf b_X24_work [sw_ld 2 2, sw_ld 2 1, sw_push (.int 1), sw_ald 64, sw_ld 2 2, sw_ld 2 1, sw_push (.int 2), sw_ald 64, sw_ald 64, sw_ast 64, sw_goto 11 [false, false, false]] l st P := rfl
theorem at_X24_work_3 : sw_at cf b_X24_work 3 l st P = sw_ex cf b_X24_work [sw_ld 2 2, sw_ld 2 1, sw_push (.int 1), sw_ald 64, sw_ld 2 2, sw_ld 2 1, sw_push (.int 2), sw_ald 64, sw_ald 64, sw_ld 2 2, sw_ld 2 1, sw_push (.int 3), sw_ald 64, sw_ald 64, sw_ii (fun x y => x + y), sw_ast 64, sw_goto 11 [false, false, false]] l st P := rfl
theorem at_X24_work_4 : sw_at cf b_X24_work 4 l st P = sw_ex cf b_X24_work [sw_ld 2 2, sw_ld 2 1, sw_push (.int 1), sw_ald 64, sw_ld 2 2, sw_ld 2 1, sw_push (.int 2), sw_ald 64, sw_ald 64, sw_ld 2 2, sw_ld 2 1, sw_push (.int 3), sw_ald 64, sw_ald 64, sw_ii (fun x y => x - y), sw_ast 64, sw_goto 11 [false, false, false]] l st P := rfl
theorem at_X24_work_5 : sw_at cf b_X24_work 5 l st P = sw_ex cf b_X24_work [sw_ld 2 2, sw_ld 2 1, sw_push (.int 1), sw_ald 64, sw_ld 2 2, sw_ld 2 1, sw_push (.int 2), sw_ald 64, sw_ald 64, sw_ld 2 2, sw_ld 2 1, sw_push (.int 3), sw_ald 64, sw_ald 64, sw_ii (fun x y => x * y), sw_ast 64, sw_goto 11 [false, false, false]] l st P := rfl
theorem at_X24_work_6 : sw_at cf b_X24_work 6 l st P = sw_ex cf b_X24_work [sw_ld 2 2, sw_ld 2 1, sw_push (.int 1), sw_ald 64, sw_ld 2 2, sw_ld 2 1, sw_push (.int 2), sw_ald 64, sw_ald 64, sw_ld 2 1, sw_push (.int 3), sw_ald 64, sw_ii (fun x y => x + y), sw_ast 64, sw_goto 11 [false, false, false]] l st P := rfl
theorem at_X24_work_7 : sw_at cf b_X24_work 7 l st P = sw_ex cf b_X24_work [sw_ld 2 2, sw_ld 2 1, sw_push (.int 1), sw_ald 64, sw_ld 2 2, sw_ld 2 1, sw_push (.int 2), sw_ald 64, sw_ald 64, sw_ld 2 2, sw_ld 2 1, sw_push (.int 3), sw_ald 64, sw_ald 64, sw_ii (fun x y => x * y), sw_ld 2 2, sw_ld 2 1, sw_push (.int 4), sw_ald 64, sw_ald 64, sw_ii (fun x y => x + y), sw_ast 64, sw_goto 11 [false, false, false]] l st P := rfl
theorem at_X24_work_8 : sw_at cf b_X24_work 8 l st P = sw_ex cf b_X24_work [sw_ld 2 2, sw_ld 2 1, sw_push (.int 1), sw_ald 64, sw_ld 2 0, sw_gf 23 3, sw_gf 18 12, sw_ld 2 1, sw_push (.int 2), sw_ald 64, sw_ald 64, sw_ast 64, sw_goto 11 [false, false, false]] l st P := rfl
theorem at_X24_work_9 : sw_at cf b_X24_work 9 l st P = sw_ex cf b_X24_work [sw_ld 2 0, sw_gf 23 3, sw_gf 18 12, sw_ld 2 1, sw_push (.int 2), sw_ald 64, sw_ld 2 2, sw_ld 2 1, sw_push (.int 1), sw_ald 64, sw_ald 64, sw_ast 64, sw_goto 11 [false, false, false]] l st P := rfl
theorem at_X24_work_10 : sw_at cf b_X24_work 10 l st P = sw_ex cf b_X24_work [sw_ld 2 2, sw_push (.int 0), sw_push (.int 3), sw_ld 2 2, sw_push (.int 0), sw_ald 64, sw_ii (fun x y => x * y), sw_push (.int 2), sw_ld 2 2, sw_push (.int 1), sw_ald 64, sw_ii (fun x y => x * y), sw_ii (fun x y => x + y), sw_push (.int 1), sw_ii (fun x y => x + y), sw_ast 64, sw_goto 11 [false, false, false]] l st P := rfl
theorem at_X24_work_11 : sw_at cf b_X24_work 11 l st P = sw_ex cf b_X24_work [sw_ret] l st P := rfl
theorem M_X24_lose (d : Nat) (as : List Value) (P : sw_P) (h : sw_wd 2 as = true) : sw_Z (d + 1) m_X24_lose as P = sw_at (sw_Z d) b_X24_lose 0 (sw_en 2 as) [] P := if_pos h
theorem at_X24_lose_0 : sw_at cf b_X24_lose 0 l st P = sw_ex cf b_X24_lose [sw_push (.int 0), sw_sti 1, sw_goto 1 [true, true]] l st P := rfl
theorem at_X24_lose_1 : sw_at cf b_X24_lose 1 l st P = sw_ex cf b_X24_lose [sw_ld 0 1, sw_ld 2 0, sw_gf 23 3, sw_gf 18 11, sw_al, sw_ic 3 7 [false, false], sw_ld 2 0, sw_gf 23 3, sw_gf 18 1, sw_ld 0 1, sw_cv 14 m_X15_isKept 1, sw_iz 0 2 [true, true], sw_goto 6 [true, true]] l st P := rfl
theorem at_X24_lose_2 : sw_at cf b_X24_lose 2 l st P = sw_ex cf b_X24_lose [sw_ld 0 1, sw_iz 5 3 [true, true], sw_ld 2 0, sw_gf 23 3, sw_gf 18 11, sw_ld 0 1, sw_push (.int (-77777)), sw_ast 64, sw_goto 3 [true, true]] l st P := rfl
theorem at_X24_lose_3 : sw_at cf b_X24_lose 3 l st P = sw_ex cf b_X24_lose [sw_ld 2 0, sw_gf 23 0, sw_ld 0 1, sw_ld 0 1, sw_iz 1 4 [true, true], sw_ld 2 0, sw_gf 23 2, sw_goto 5 [true, true]] l st P := rfl
theorem at_X24_lose_4 : sw_at cf b_X24_lose 4 l st P = sw_ex cf b_X24_lose [sw_push (.int 0), sw_goto 5 [true, true]] l st P := rfl
theorem at_X24_lose_5 : sw_at cf b_X24_lose 5 l st P = sw_ex cf b_X24_lose [sw_ast 64, sw_goto 6 [true, true]] l st P := rfl
theorem at_X24_lose_6 : sw_at cf b_X24_lose 6 l st P = sw_ex cf b_X24_lose [sw_inc 1 1, sw_goto 1 [true, true]] l st P := rfl
theorem at_X24_lose_7 : sw_at cf b_X24_lose 7 l st P = sw_ex cf b_X24_lose [sw_ret] l st P := rfl
theorem M_X3_init (d : Nat) (as : List Value) (P : sw_P) (h : sw_wd 7 as = true) : sw_Z (d + 1) m_X3_init as P = sw_at (sw_Z d) b_X3_init 0 (sw_en 7 as) [] P := if_pos h
theorem at_X3_init_0 : sw_at cf b_X3_init 0 l st P = sw_ex cf b_X3_init [sw_ld 2 0, sw_oin, sw_ld 2 0, sw_ld 0 1, sw_pf 2 0 0, sw_ld 2 0, sw_ld 0 2, sw_pf 2 1 0, sw_ld 2 0, sw_ld 0 3, sw_pf 2 2 0, sw_ld 2 0, sw_ld 0 4, sw_pf 2 3 1, sw_ld 2 0, sw_ld 0 5, sw_pf 2 4 1, sw_ld 2 0, sw_ld 2 6, sw_pf 2 5 2, sw_ret] l st P := rfl
theorem M_X3_latency (d : Nat) (as : List Value) (P : sw_P) (h : sw_wd 2 as = true) : sw_Z (d + 1) m_X3_latency as P = sw_at (sw_Z d) b_X3_latency 0 (sw_en 2 as) [] P := if_pos h
theorem at_X3_latency_0 : sw_at cf b_X3_latency 0 l st P = sw_ex cf b_X3_latency [sw_ld 0 1, sw_sw [(0, 1, [true, false]), (1, 2, [true, false]), (2, 8, [true, false]), (3, 8, [true, false]), (4, 3, [true, false]), (5, 8, [true, false]), (6, 4, [true, false]), (7, 5, [true, false]), (8, 6, [true, false]), (9, 7, [true, false])] (8, [true, false])] l st P := rfl
theorem at_X3_latency_1 : sw_at cf b_X3_latency 1 l st P = sw_ex cf b_X3_latency [sw_ld 2 0, sw_gf 2 5, sw_push (.int 0), sw_ald 64, sw_rv 0] l st P := rfl
theorem at_X3_latency_2 : sw_at cf b_X3_latency 2 l st P = sw_ex cf b_X3_latency [sw_ld 2 0, sw_gf 2 5, sw_push (.int 1), sw_ald 64, sw_rv 0] l st P := rfl
theorem at_X3_latency_3 : sw_at cf b_X3_latency 3 l st P = sw_ex cf b_X3_latency [sw_ld 2 0, sw_gf 2 5, sw_push (.int 3), sw_ald 64, sw_rv 0] l st P := rfl
theorem at_X3_latency_4 : sw_at cf b_X3_latency 4 l st P = sw_ex cf b_X3_latency [sw_ld 2 0, sw_gf 2 5, sw_push (.int 4), sw_ald 64, sw_rv 0] l st P := rfl
theorem at_X3_latency_5 : sw_at cf b_X3_latency 5 l st P = sw_ex cf b_X3_latency [sw_ld 2 0, sw_gf 2 5, sw_push (.int 5), sw_ald 64, sw_rv 0] l st P := rfl
theorem at_X3_latency_6 : sw_at cf b_X3_latency 6 l st P = sw_ex cf b_X3_latency [sw_ld 2 0, sw_gf 2 5, sw_push (.int 6), sw_ald 64, sw_rv 0] l st P := rfl
theorem at_X3_latency_7 : sw_at cf b_X3_latency 7 l st P = sw_ex cf b_X3_latency [sw_ld 2 0, sw_gf 2 5, sw_push (.int 7), sw_ald 64, sw_rv 0] l st P := rfl
theorem at_X3_latency_8 : sw_at cf b_X3_latency 8 l st P = sw_ex cf b_X3_latency [sw_ld 2 0, sw_gf 2 5, sw_push (.int 2), sw_ald 64, sw_rv 0] l st P := rfl
theorem M_X3_isSmall (d : Nat) (as : List Value) (P : sw_P) (h : sw_wd 2 as = true) : sw_Z (d + 1) m_X3_isSmall as P = sw_at (sw_Z d) b_X3_isSmall 0 (sw_en 2 as) [] P := if_pos h
theorem at_X3_isSmall_0 : sw_at cf b_X3_isSmall 0 l st P = sw_ex cf b_X3_isSmall [sw_ld 0 1, sw_ld 2 0, sw_gf 2 2, sw_in (fun x => -x), sw_ic 2 1 [false, false], sw_ld 0 1, sw_ld 2 0, sw_gf 2 2, sw_ic 4 1 [false, false], sw_push (.int 1), sw_goto 2 [false, false]] l st P := rfl
theorem at_X3_isSmall_1 : sw_at cf b_X3_isSmall 1 l st P = sw_ex cf b_X3_isSmall [sw_push (.int 0), sw_goto 2 [false, false]] l st P := rfl
theorem at_X3_isSmall_2 : sw_at cf b_X3_isSmall 2 l st P = sw_ex cf b_X3_isSmall [sw_rv 1] l st P := rfl
theorem M_X3_isKept (d : Nat) (as : List Value) (P : sw_P) (h : sw_wd 2 as = true) : sw_Z (d + 1) m_X3_isKept as P = sw_at (sw_Z d) b_X3_isKept 0 (sw_en 2 as) [] P := if_pos h
theorem at_X3_isKept_0 : sw_at cf b_X3_isKept 0 l st P = sw_ex cf b_X3_isKept [sw_ld 2 0, sw_gf 2 1, sw_ld 0 1, sw_cs m_X1_has 2, sw_rv 1] l st P := rfl
theorem M_X3_scratch (d : Nat) (as : List Value) (P : sw_P) (h : sw_wd 1 as = true) : sw_Z (d + 1) m_X3_scratch as P = sw_at (sw_Z d) b_X3_scratch 0 (sw_en 1 as) [] P := if_pos h
theorem at_X3_scratch_0 : sw_at cf b_X3_scratch 0 l st P = sw_ex cf b_X3_scratch [sw_ld 2 0, sw_gf 2 0, sw_push (.int 3), sw_ii (fun x y => x - y), sw_rv 0] l st P := rfl
theorem M_X3_with (d : Nat) (as : List Value) (P : sw_P) (h : sw_wd 4 as = true) : sw_Z (d + 1) m_X3_with as P = sw_at (sw_Z d) b_X3_with 0 (sw_en 4 as) [] P := if_pos h
theorem at_X3_with_0 : sw_at cf b_X3_with 0 l st P = sw_ex cf b_X3_with [sw_nw 2 [.int 0, .int 0, .int 0, .int 0, .int 0, .null], sw_dup, sw_ld 0 1, sw_ld 0 2, sw_ld 2 0, sw_gf 2 2, sw_ld 2 0, sw_gf 2 3, sw_ld 0 3, sw_ld 2 0, sw_gf 2 5, sw_ci m_X3_init 6, sw_rv 2] l st P := rfl
theorem M_X3_with_2 (d : Nat) (as : List Value) (P : sw_P) (h : sw_wd 4 as = true) : sw_Z (d + 1) m_X3_with_2 as P = sw_at (sw_Z d) b_X3_with_2 0 (sw_en 4 as) [] P := if_pos h
theorem at_X3_with_2_0 : sw_at cf b_X3_with_2 0 l st P = sw_ex cf b_X3_with_2 [sw_push (.int 8), sw_na 64, sw_sta 3, sw_ld 2 0, sw_gf 2 5, sw_push (.int 0), sw_ld 2 3, sw_push (.int 0), sw_push (.int 8), sw_cp 64, sw_ld 2 3, sw_ld 0 1, sw_ld 0 2, sw_ast 64, sw_nw 2 [.int 0, .int 0, .int 0, .int 0, .int 0, .null], sw_dup, sw_ld 2 0, sw_gf 2 0, sw_ld 2 0, sw_gf 2 1, sw_ld 2 0, sw_gf 2 2, sw_ld 2 0, sw_gf 2 3, sw_ld 2 0, sw_gf 2 4, sw_ld 2 3, sw_ci m_X3_init 6, sw_rv 2] l st P := rfl
theorem M_X4_init (d : Nat) (as : List Value) (P : sw_P) (h : sw_wd 7 as = true) : sw_Z (d + 1) m_X4_init as P = sw_at (sw_Z d) b_X4_init 0 (sw_en 7 as) [] P := if_pos h
theorem at_X4_init_0 : sw_at cf b_X4_init 0 l st P = sw_ex cf b_X4_init [sw_ld 2 0, sw_oin, sw_nw 4 [.null, .null, .null, .null, .int 0, .int 0], sw_dup, sw_ld 2 1, sw_ld 2 2, sw_ci m_X5_init 2, sw_sta 4, sw_ld 2 0, sw_ld 2 4, sw_gf 4 2, sw_pf 3 4 2, sw_ld 2 0, sw_nw 5 [.null, .null, .null, .null, .null], sw_dup, sw_ld 2 4, sw_cv 4 m_X5_all 0, sw_ld 2 2, sw_ci m_X6_init 2, sw_ld 0 3, sw_cv 5 m_X6_all 1, sw_pf 3 0 2, sw_ld 2 0, sw_ld 2 4, sw_gf 4 4, sw_pf 3 5 0, sw_ld 2 0, sw_nw 7 [.null, .null, .null, .null], sw_dup, sw_ld 2 0, sw_gf 3 0, sw_ld 2 1, sw_ld 2 2, sw_ld 2 0, sw_gf 3 5, sw_ci m_X8_init 4, sw_pf 3 1 2, sw_ld 2 0, sw_nw 9 [.null, .null, .null, .int 0], sw_dup, sw_ld 2 0, sw_gf 3 1, sw_ld 2 2, sw_ci m_X10_init 2, sw_ld 2 0, sw_gf 3 0, sw_cv 9 m_X10_all 1, sw_pf 3 2 2, sw_ld 2 0, sw_nw 11 [.null, .null, .null, .null, .int 0, .int 0, .int 0, .int 0], sw_dup, sw_ld 2 2, sw_ld 2 0, sw_gf 3 1, sw_cv 7 m_X8_slots 0, sw_ci m_X12_init 2, sw_pf 3 3 2, sw_ld 2 0, sw_gf 3 3, sw_ld 2 0, sw_gf 3 2, sw_ld 2 0, sw_gf 3 0, sw_push (.int (-1)), sw_cv 11 m_X12_run 3, sw_push (.int 0), sw_sti 5, sw_goto 1 [true, true, false, false, false, true, false]] l st P := rfl
theorem at_X4_init_1 : sw_at cf b_X4_init 1 l st P = sw_ex cf b_X4_init [sw_ld 0 5, sw_push (.int 4), sw_ic 3 4 [false, false, false, false, false, false, false], sw_push (.int 0), sw_sti 6, sw_goto 2 [true, true, false, false, false, true, true]] l st P := rfl
theorem at_X4_init_2 : sw_at cf b_X4_init 2 l st P = sw_ex cf b_X4_init [sw_ld 0 6, sw_ld 2 1, sw_gf 1 2, sw_ld 0 5, sw_ald 64, sw_ic 3 3 [true, true, false, false, false, true, false], sw_ld 2 0, sw_gf 3 3, sw_ld 2 0, sw_gf 3 2, sw_ld 2 0, sw_gf 3 0, sw_ld 0 5, sw_cv 11 m_X12_run 3, sw_inc 6 1, sw_goto 2 [true, true, false, false, false, true, true]] l st P := rfl
theorem at_X4_init_3 : sw_at cf b_X4_init 3 l st P = sw_ex cf b_X4_init [sw_inc 5 1, sw_goto 1 [true, true, false, false, false, true, false]] l st P := rfl
theorem at_X4_init_4 : sw_at cf b_X4_init 4 l st P = sw_ex cf b_X4_init [sw_ret] l st P := rfl
theorem M_X4_many (d : Nat) (as : List Value) (P : sw_P) (h : sw_wd 2 as = true) : sw_Z (d + 1) m_X4_many as P = sw_at (sw_Z d) b_X4_many 0 (sw_en 2 as) [] P := if_pos h
theorem at_X4_many_0 : sw_at cf b_X4_many 0 l st P = sw_ex cf b_X4_many [sw_ld 0 1, sw_sw [(3, 1, [true, false]), (4, 2, [true, false]), (5, 3, [true, true]), (6, 3, [true, true]), (7, 6, [true, false]), (8, 7, [true, false]), (9, 8, [true, false]), (10, 9, [true, false]), (11, 10, [true, false]), (12, 11, [true, false]), (13, 12, [true, false]), (14, 13, [true, false])] (14, [true, false])] l st P := rfl
theorem at_X4_many_1 : sw_at cf b_X4_many 1 l st P = sw_ex cf b_X4_many [sw_ld 2 0, sw_gf 3 0, sw_cv 24 m_J2_size 0, sw_rv 0] l st P := rfl
theorem at_X4_many_2 : sw_at cf b_X4_many 2 l st P = sw_ex cf b_X4_many [sw_ld 2 0, sw_gf 3 1, sw_gf 7 3, sw_cv 24 m_J2_size 0, sw_rv 0] l st P := rfl
theorem at_X4_many_3 : sw_at cf b_X4_many 3 l st P = sw_ex cf b_X4_many [sw_ld 2 0, sw_gf 3 1, sw_ld 0 1, sw_push (.int 6), sw_ic 1 4 [false, false], sw_push (.int 1), sw_goto 5 [false, false]] l st P := rfl
theorem at_X4_many_4 : sw_at cf b_X4_many 4 l st P = sw_ex cf b_X4_many [sw_push (.int 0), sw_goto 5 [false, false]] l st P := rfl
theorem at_X4_many_5 : sw_at cf b_X4_many 5 l st P = sw_ex cf b_X4_many [sw_cv 7 m_X8_spilled 1, sw_rv 0] l st P := rfl
theorem at_X4_many_6 : sw_at cf b_X4_many 6 l st P = sw_ex cf b_X4_many [sw_ld 2 0, sw_gf 3 1, sw_cv 7 m_X8_slots 0, sw_rv 0] l st P := rfl
theorem at_X4_many_7 : sw_at cf b_X4_many 7 l st P = sw_ex cf b_X4_many [sw_ld 2 0, sw_gf 3 1, sw_cv 7 m_X8_frame 0, sw_rv 0] l st P := rfl
theorem at_X4_many_8 : sw_at cf b_X4_many 8 l st P = sw_ex cf b_X4_many [sw_ld 2 0, sw_gf 3 2, sw_cv 24 m_J2_size 0, sw_rv 0] l st P := rfl
theorem at_X4_many_9 : sw_at cf b_X4_many 9 l st P = sw_ex cf b_X4_many [sw_ld 2 0, sw_push (.int 1), sw_push (.int 1), sw_cv 3 m_X4_codes 2, sw_rv 0] l st P := rfl
theorem at_X4_many_10 : sw_at cf b_X4_many 10 l st P = sw_ex cf b_X4_many [sw_ld 2 0, sw_push (.int 7), sw_push (.int 8), sw_cv 3 m_X4_codes 2, sw_rv 0] l st P := rfl
theorem at_X4_many_11 : sw_at cf b_X4_many 11 l st P = sw_ex cf b_X4_many [sw_ld 2 0, sw_gf 3 3, sw_gf 11 4, sw_rv 0] l st P := rfl
theorem at_X4_many_12 : sw_at cf b_X4_many 12 l st P = sw_ex cf b_X4_many [sw_ld 2 0, sw_gf 3 3, sw_gf 11 7, sw_rv 0] l st P := rfl
theorem at_X4_many_13 : sw_at cf b_X4_many 13 l st P = sw_ex cf b_X4_many [sw_ld 2 0, sw_gf 3 3, sw_gf 11 6, sw_rv 0] l st P := rfl
theorem at_X4_many_14 : sw_at cf b_X4_many 14 l st P = sw_ex cf b_X4_many [sw_ld 2 0, sw_gf 3 1, sw_cv 7 m_X8_most 0, sw_rv 0] l st P := rfl
theorem M_X4_codes (d : Nat) (as : List Value) (P : sw_P) (h : sw_wd 5 as = true) : sw_Z (d + 1) m_X4_codes as P = sw_at (sw_Z d) b_X4_codes 0 (sw_en 5 as) [] P := if_pos h
theorem at_X4_codes_0 : sw_at cf b_X4_codes 0 l st P = sw_ex cf b_X4_codes [sw_push (.int 0), sw_sti 3, sw_push (.int 0), sw_sti 4, sw_goto 1 [true, true, true, true, true]] l st P := rfl
theorem at_X4_codes_1 : sw_at cf b_X4_codes 1 l st P = sw_ex cf b_X4_codes [sw_ld 0 4, sw_ld 2 0, sw_gf 3 2, sw_cv 24 m_J2_size 0, sw_ic 3 4 [false, false, false, true, false], sw_ld 0 3, sw_ld 2 0, sw_gf 3 2, sw_ld 0 4, sw_cv 24 m_J2_get 1, sw_ct [10], sw_gf 10 0, sw_ld 0 1, sw_ic 2 2 [true, true, true, false, true], sw_ld 2 0, sw_gf 3 2, sw_ld 0 4, sw_cv 24 m_J2_get 1, sw_ct [10], sw_gf 10 0, sw_ld 0 2, sw_ic 4 2 [true, true, true, false, true], sw_push (.int 1), sw_goto 3 [true, true, true, false, true]] l st P := rfl
theorem at_X4_codes_2 : sw_at cf b_X4_codes 2 l st P = sw_ex cf b_X4_codes [sw_push (.int 0), sw_goto 3 [true, true, true, false, true]] l st P := rfl
theorem at_X4_codes_3 : sw_at cf b_X4_codes 3 l st P = sw_ex cf b_X4_codes [sw_ii (fun x y => x + y), sw_sti 3, sw_inc 4 1, sw_goto 1 [true, true, true, true, true]] l st P := rfl
theorem at_X4_codes_4 : sw_at cf b_X4_codes 4 l st P = sw_ex cf b_X4_codes [sw_ld 0 3, sw_rv 0] l st P := rfl
theorem M_X4_answer (d : Nat) (as : List Value) (P : sw_P) (h : sw_wd 3 as = true) : sw_Z (d + 1) m_X4_answer as P = sw_at (sw_Z d) b_X4_answer 0 (sw_en 3 as) [] P := if_pos h
theorem at_X4_answer_0 : sw_at cf b_X4_answer 0 l st P = sw_ex cf b_X4_answer [sw_ld 2 0, sw_gf 3 1, sw_ld 0 1, sw_cv 7 m_X8_of 1, sw_sta 2, sw_ld 2 2, sw_cv 8 m_X9_isRemade 0, sw_iz 0 1 [true, false, true], sw_ld 2 2, sw_gf 8 10, sw_gf 6 3, sw_rv 0] l st P := rfl
theorem at_X4_answer_1 : sw_at cf b_X4_answer 1 l st P = sw_ex cf b_X4_answer [sw_ld 2 2, sw_gf 8 8, sw_iz 0 2 [true, false, true], sw_ld 2 0, sw_gf 3 3, sw_gf 11 3, sw_ld 2 2, sw_gf 8 9, sw_ald 64, sw_goto 3 [false, false, false]] l st P := rfl
theorem at_X4_answer_2 : sw_at cf b_X4_answer 2 l st P = sw_ex cf b_X4_answer [sw_ld 2 0, sw_gf 3 3, sw_gf 11 1, sw_ld 2 2, sw_gf 8 7, sw_ald 64, sw_goto 3 [false, false, false]] l st P := rfl
theorem at_X4_answer_3 : sw_at cf b_X4_answer 3 l st P = sw_ex cf b_X4_answer [sw_rv 0] l st P := rfl
theorem M_X5_init (d : Nat) (as : List Value) (P : sw_P) (h : sw_wd 4 as = true) : sw_Z (d + 1) m_X5_init as P = sw_at (sw_Z d) b_X5_init 0 (sw_en 4 as) [] P := if_pos h
theorem at_X5_init_0 : sw_at cf b_X5_init 0 l st P = sw_ex cf b_X5_init [sw_ld 2 0, sw_oin, sw_ld 2 0, sw_nw 24 [.int 0, .null, .int 0], sw_dup, sw_ci m_J2_init 0, sw_pf 4 3 2, sw_ld 2 0, sw_push (.int 8), sw_pf 4 4 0, sw_ld 2 0, sw_ld 2 1, sw_pf 4 0 2, sw_ld 2 0, sw_ld 2 2, sw_pf 4 1 2, sw_ld 2 0, sw_ld 2 1, sw_gf 1 0, sw_cv 24 m_J2_size 0, sw_na 64, sw_pf 4 2 2, sw_push (.int 0), sw_sti 3, sw_goto 1 [true, false, false, true]] l st P := rfl
theorem at_X5_init_1 : sw_at cf b_X5_init 1 l st P = sw_ex cf b_X5_init [sw_ld 0 3, sw_ld 2 0, sw_gf 4 2, sw_al, sw_ic 3 2 [false, false, false, false], sw_ld 2 0, sw_gf 4 2, sw_ld 0 3, sw_ld 2 0, sw_ld 0 3, sw_cv 4 m_X5_costOf 1, sw_ast 64, sw_inc 3 1, sw_goto 1 [true, false, false, true]] l st P := rfl
theorem at_X5_init_2 : sw_at cf b_X5_init 2 l st P = sw_ex cf b_X5_init [sw_ret] l st P := rfl
theorem M_X5_costOf (d : Nat) (as : List Value) (P : sw_P) (h : sw_wd 3 as = true) : sw_Z (d + 1) m_X5_costOf as P = sw_at (sw_Z d) b_X5_costOf 0 (sw_en 3 as) [] P := if_pos h
theorem at_X5_costOf_0 : sw_at cf b_X5_costOf 0 l st P = sw_ex cf b_X5_costOf [sw_ld 2 0, sw_ld 0 1, sw_cv 4 m_X5_at 1, sw_sta 2, sw_ld 2 2, sw_cv 15 m_X16_isOfTwo 0, sw_iz 1 3 [true, false, true], sw_ld 2 2, sw_gs 0, sw_cv 15 m_X16_is 1, sw_iz 0 1 [false, false, false], sw_ld 2 0, sw_gf 4 1, sw_push (.int 0), sw_cv 2 m_X3_latency 1, sw_goto 2 [false, false, false]] l st P := rfl
theorem at_X5_costOf_1 : sw_at cf b_X5_costOf 1 l st P = sw_ex cf b_X5_costOf [sw_push (.int 0), sw_goto 2 [false, false, false]] l st P := rfl
theorem at_X5_costOf_2 : sw_at cf b_X5_costOf 2 l st P = sw_ex cf b_X5_costOf [sw_rv 0] l st P := rfl
theorem at_X5_costOf_3 : sw_at cf b_X5_costOf 3 l st P = sw_ex cf b_X5_costOf [sw_ld 2 0, sw_ld 2 2, sw_cv 4 m_X5_plainCost 1, sw_ld 2 0, sw_ld 2 2, sw_cv 4 m_X5_smallCost 1, sw_ld 2 0, sw_ld 2 2, sw_cv 4 m_X5_fusedCost 1, sw_mm sw_min, sw_mm sw_min, sw_rv 0] l st P := rfl
theorem M_X5_at (d : Nat) (as : List Value) (P : sw_P) (h : sw_wd 2 as = true) : sw_Z (d + 1) m_X5_at as P = sw_at (sw_Z d) b_X5_at 0 (sw_en 2 as) [] P := if_pos h
theorem at_X5_at_0 : sw_at cf b_X5_at 0 l st P = sw_ex cf b_X5_at [sw_ld 2 0, sw_gf 4 0, sw_ld 0 1, sw_cv 1 m_X2_at 1, sw_rv 2] l st P := rfl
theorem M_X5_plainCost (d : Nat) (as : List Value) (P : sw_P) (h : sw_wd 2 as = true) : sw_Z (d + 1) m_X5_plainCost as P = sw_at (sw_Z d) b_X5_plainCost 0 (sw_en 2 as) [] P := if_pos h
theorem at_X5_plainCost_0 : sw_at cf b_X5_plainCost 0 l st P = sw_ex cf b_X5_plainCost [sw_ld 2 0, sw_gf 4 1, sw_ld 2 1, sw_cs m_X5_opOf 1, sw_cv 2 m_X3_latency 1, sw_ld 2 0, sw_gf 4 2, sw_ld 2 1, sw_gf 15 1, sw_ald 64, sw_ii (fun x y => x + y), sw_ld 2 0, sw_gf 4 2, sw_ld 2 1, sw_gf 15 2, sw_ald 64, sw_ii (fun x y => x + y), sw_rv 0] l st P := rfl
theorem M_X5_opOf (d : Nat) (as : List Value) (P : sw_P) (h : sw_wd 1 as = true) : sw_Z (d + 1) m_X5_opOf as P = sw_at (sw_Z d) b_X5_opOf 0 (sw_en 1 as) [] P := if_pos h
theorem at_X5_opOf_0 : sw_at cf b_X5_opOf 0 l st P = sw_ex cf b_X5_opOf [sw_ld 2 0, sw_gs 2, sw_cv 15 m_X16_is 1, sw_iz 0 1 [true], sw_push (.int 2), sw_goto 4 [false]] l st P := rfl
theorem at_X5_opOf_1 : sw_at cf b_X5_opOf 1 l st P = sw_ex cf b_X5_opOf [sw_ld 2 0, sw_gs 3, sw_cv 15 m_X16_is 1, sw_iz 0 2 [true], sw_push (.int 3), sw_goto 4 [false]] l st P := rfl
theorem at_X5_opOf_2 : sw_at cf b_X5_opOf 2 l st P = sw_ex cf b_X5_opOf [sw_ld 2 0, sw_gs 4, sw_cv 15 m_X16_is 1, sw_iz 0 3 [false], sw_push (.int 4), sw_goto 4 [false]] l st P := rfl
theorem at_X5_opOf_3 : sw_at cf b_X5_opOf 3 l st P = sw_ex cf b_X5_opOf [sw_push (.int 9), sw_goto 4 [false]] l st P := rfl
theorem at_X5_opOf_4 : sw_at cf b_X5_opOf 4 l st P = sw_ex cf b_X5_opOf [sw_rv 0] l st P := rfl
theorem M_X5_smallCost (d : Nat) (as : List Value) (P : sw_P) (h : sw_wd 2 as = true) : sw_Z (d + 1) m_X5_smallCost as P = sw_at (sw_Z d) b_X5_smallCost 0 (sw_en 2 as) [] P := if_pos h
theorem at_X5_smallCost_0 : sw_at cf b_X5_smallCost 0 l st P = sw_ex cf b_X5_smallCost [sw_ld 2 0, sw_ld 2 1, sw_cv 4 m_X5_small 1, sw_push (.int (-1)), sw_ic 1 1 [true, true], sw_push (.int 2147483647), sw_goto 2 [false, false]] l st P := rfl
theorem at_X5_smallCost_1 : sw_at cf b_X5_smallCost 1 l st P = sw_ex cf b_X5_smallCost [sw_ld 2 0, sw_gf 4 1, sw_push (.int 5), sw_cv 2 m_X3_latency 1, sw_ld 2 0, sw_gf 4 2, sw_ld 2 1, sw_ld 2 0, sw_ld 2 1, sw_cv 4 m_X5_small 1, sw_cs m_X5_other 2, sw_ald 64, sw_ii (fun x y => x + y), sw_goto 2 [false, false]] l st P := rfl
theorem at_X5_smallCost_2 : sw_at cf b_X5_smallCost 2 l st P = sw_ex cf b_X5_smallCost [sw_rv 0] l st P := rfl
theorem M_X5_small (d : Nat) (as : List Value) (P : sw_P) (h : sw_wd 2 as = true) : sw_Z (d + 1) m_X5_small as P = sw_at (sw_Z d) b_X5_small 0 (sw_en 2 as) [] P := if_pos h
theorem at_X5_small_0 : sw_at cf b_X5_small 0 l st P = sw_ex cf b_X5_small [sw_ld 2 1, sw_gs 2, sw_cv 15 m_X16_is 1, sw_iz 1 1 [true, true], sw_ld 2 1, sw_gs 3, sw_cv 15 m_X16_is 1, sw_iz 0 2 [true, true], sw_goto 1 [true, true]] l st P := rfl
theorem at_X5_small_1 : sw_at cf b_X5_small 1 l st P = sw_ex cf b_X5_small [sw_ld 2 0, sw_ld 2 1, sw_gf 15 2, sw_cv 4 m_X5_isSmall 1, sw_iz 0 2 [true, true], sw_ld 2 1, sw_gf 15 2, sw_rv 0] l st P := rfl
theorem at_X5_small_2 : sw_at cf b_X5_small 2 l st P = sw_ex cf b_X5_small [sw_ld 2 1, sw_gs 2, sw_cv 15 m_X16_is 1, sw_iz 0 3 [false, false], sw_ld 2 0, sw_ld 2 1, sw_gf 15 1, sw_cv 4 m_X5_isSmall 1, sw_iz 0 3 [false, false], sw_ld 2 1, sw_gf 15 1, sw_goto 4 [false, false]] l st P := rfl
theorem at_X5_small_3 : sw_at cf b_X5_small 3 l st P = sw_ex cf b_X5_small [sw_push (.int (-1)), sw_goto 4 [false, false]] l st P := rfl
theorem at_X5_small_4 : sw_at cf b_X5_small 4 l st P = sw_ex cf b_X5_small [sw_rv 0] l st P := rfl
theorem M_X5_isSmall (d : Nat) (as : List Value) (P : sw_P) (h : sw_wd 2 as = true) : sw_Z (d + 1) m_X5_isSmall as P = sw_at (sw_Z d) b_X5_isSmall 0 (sw_en 2 as) [] P := if_pos h
theorem at_X5_isSmall_0 : sw_at cf b_X5_isSmall 0 l st P = sw_ex cf b_X5_isSmall [sw_ld 2 0, sw_ld 0 1, sw_cv 4 m_X5_at 1, sw_gs 0, sw_cv 15 m_X16_is 1, sw_iz 0 1 [false, false], sw_ld 2 0, sw_gf 4 1, sw_ld 2 0, sw_ld 0 1, sw_cv 4 m_X5_at 1, sw_gf 15 1, sw_cv 2 m_X3_isSmall 1, sw_iz 0 1 [false, false], sw_push (.int 1), sw_goto 2 [false, false]] l st P := rfl
theorem at_X5_isSmall_1 : sw_at cf b_X5_isSmall 1 l st P = sw_ex cf b_X5_isSmall [sw_push (.int 0), sw_goto 2 [false, false]] l st P := rfl
theorem at_X5_isSmall_2 : sw_at cf b_X5_isSmall 2 l st P = sw_ex cf b_X5_isSmall [sw_rv 1] l st P := rfl
theorem M_X5_other (d : Nat) (as : List Value) (P : sw_P) (h : sw_wd 2 as = true) : sw_Z (d + 1) m_X5_other as P = sw_at (sw_Z d) b_X5_other 0 (sw_en 2 as) [] P := if_pos h
theorem at_X5_other_0 : sw_at cf b_X5_other 0 l st P = sw_ex cf b_X5_other [sw_ld 0 1, sw_ld 2 0, sw_gf 15 1, sw_ic 1 1 [true, false], sw_ld 2 0, sw_gf 15 2, sw_goto 2 [false, false]] l st P := rfl
theorem at_X5_other_1 : sw_at cf b_X5_other 1 l st P = sw_ex cf b_X5_other [sw_ld 2 0, sw_gf 15 1, sw_goto 2 [false, false]] l st P := rfl
theorem at_X5_other_2 : sw_at cf b_X5_other 2 l st P = sw_ex cf b_X5_other [sw_rv 0] l st P := rfl
theorem M_X5_fusedCost (d : Nat) (as : List Value) (P : sw_P) (h : sw_wd 3 as = true) : sw_Z (d + 1) m_X5_fusedCost as P = sw_at (sw_Z d) b_X5_fusedCost 0 (sw_en 3 as) [] P := if_pos h
theorem at_X5_fusedCost_0 : sw_at cf b_X5_fusedCost 0 l st P = sw_ex cf b_X5_fusedCost [sw_ld 2 0, sw_ld 2 1, sw_cv 4 m_X5_fused 1, sw_sti 2, sw_ld 0 2, sw_push (.int (-1)), sw_ic 1 1 [true, true, true], sw_push (.int 2147483647), sw_rv 0] l st P := rfl
theorem at_X5_fusedCost_1 : sw_at cf b_X5_fusedCost 1 l st P = sw_ex cf b_X5_fusedCost [sw_ld 2 0, sw_gf 4 1, sw_push (.int 6), sw_cv 2 m_X3_latency 1, sw_ld 2 0, sw_gf 4 2, sw_ld 2 0, sw_ld 0 2, sw_cv 4 m_X5_at 1, sw_gf 15 1, sw_ald 64, sw_ii (fun x y => x + y), sw_ld 2 0, sw_gf 4 2, sw_ld 2 0, sw_ld 0 2, sw_cv 4 m_X5_at 1, sw_gf 15 2, sw_ald 64, sw_ii (fun x y => x + y), sw_ld 2 0, sw_gf 4 2, sw_ld 2 1, sw_ld 0 2, sw_cs m_X5_other 2, sw_ald 64, sw_ii (fun x y => x + y), sw_rv 0] l st P := rfl
theorem M_X5_fused (d : Nat) (as : List Value) (P : sw_P) (h : sw_wd 2 as = true) : sw_Z (d + 1) m_X5_fused as P = sw_at (sw_Z d) b_X5_fused 0 (sw_en 2 as) [] P := if_pos h
theorem at_X5_fused_0 : sw_at cf b_X5_fused 0 l st P = sw_ex cf b_X5_fused [sw_ld 2 0, sw_gf 4 1, sw_gf 2 3, sw_iz 0 1 [false, false], sw_ld 2 1, sw_gs 2, sw_cv 15 m_X16_is 1, sw_iz 1 2 [true, true], sw_goto 1 [false, false]] l st P := rfl
theorem at_X5_fused_1 : sw_at cf b_X5_fused 1 l st P = sw_ex cf b_X5_fused [sw_push (.int (-1)), sw_rv 0] l st P := rfl
theorem at_X5_fused_2 : sw_at cf b_X5_fused 2 l st P = sw_ex cf b_X5_fused [sw_ld 2 0, sw_ld 2 1, sw_gf 15 1, sw_cv 4 m_X5_at 1, sw_gs 4, sw_cv 15 m_X16_is 1, sw_iz 0 3 [true, true], sw_ld 2 1, sw_gf 15 1, sw_goto 5 [false, false]] l st P := rfl
theorem at_X5_fused_3 : sw_at cf b_X5_fused 3 l st P = sw_ex cf b_X5_fused [sw_ld 2 0, sw_ld 2 1, sw_gf 15 2, sw_cv 4 m_X5_at 1, sw_gs 4, sw_cv 15 m_X16_is 1, sw_iz 0 4 [false, false], sw_ld 2 1, sw_gf 15 2, sw_goto 5 [false, false]] l st P := rfl
theorem at_X5_fused_4 : sw_at cf b_X5_fused 4 l st P = sw_ex cf b_X5_fused [sw_push (.int (-1)), sw_goto 5 [false, false]] l st P := rfl
theorem at_X5_fused_5 : sw_at cf b_X5_fused 5 l st P = sw_ex cf b_X5_fused [sw_rv 0] l st P := rfl
theorem M_X5_all (d : Nat) (as : List Value) (P : sw_P) (h : sw_wd 4 as = true) : sw_Z (d + 1) m_X5_all as P = sw_at (sw_Z d) b_X5_all 0 (sw_en 4 as) [] P := if_pos h
theorem at_X5_all_0 : sw_at cf b_X5_all 0 l st P = sw_ex cf b_X5_all [sw_ld 2 0, sw_push (.int 0), sw_pf 4 5 0, sw_goto 1 [true, false, false, false]] l st P := rfl
theorem at_X5_all_1 : sw_at cf b_X5_all 1 l st P = sw_ex cf b_X5_all [sw_ld 2 0, sw_gf 4 5, sw_push (.int 4), sw_ic 3 4 [true, false, false, false], sw_ld 2 0, sw_gf 4 0, sw_gf 1 1, sw_ld 2 0, sw_gf 4 5, sw_cv 24 m_J2_get 1, sw_ct [24], sw_sta 1, sw_push (.int 0), sw_sti 2, sw_goto 2 [true, true, true, false]] l st P := rfl
theorem at_X5_all_2 : sw_at cf b_X5_all 2 l st P = sw_ex cf b_X5_all [sw_ld 0 2, sw_ld 2 1, sw_cv 24 m_J2_size 0, sw_ic 3 3 [true, false, false, false], sw_ld 2 0, sw_ld 2 1, sw_ld 0 2, sw_cv 24 m_J2_get 1, sw_ct [17], sw_gf 17 1, sw_ld 2 1, sw_ld 0 2, sw_cv 24 m_J2_get 1, sw_ct [17], sw_gf 17 0, sw_cv 4 m_X5_emit 2, sw_pop, sw_inc 2 1, sw_goto 2 [true, true, true, false]] l st P := rfl
theorem at_X5_all_3 : sw_at cf b_X5_all 3 l st P = sw_ex cf b_X5_all [sw_ld 2 0, sw_dup, sw_gf 4 5, sw_push (.int 1), sw_ii (fun x y => x + y), sw_pf 4 5 0, sw_goto 1 [true, false, false, false]] l st P := rfl
theorem at_X5_all_4 : sw_at cf b_X5_all 4 l st P = sw_ex cf b_X5_all [sw_nw 24 [.int 0, .null, .int 0], sw_dup, sw_ci m_J2_init 0, sw_sta 1, sw_ld 2 0, sw_cv 4 m_X5_entry 0, sw_sti 2, sw_push (.int 0), sw_sti 3, sw_goto 5 [true, true, true, true]] l st P := rfl
theorem at_X5_all_5 : sw_at cf b_X5_all 5 l st P = sw_ex cf b_X5_all [sw_ld 0 3, sw_push (.int 8), sw_ic 3 7 [true, true, false, false], sw_ld 0 2, sw_ld 0 3, sw_cs m_X1_has 2, sw_iz 0 6 [true, true, true, true], sw_ld 2 1, sw_nw 6 [.int 0, .int 0, .null, .int 0, .int 0, .int 0], sw_dup, sw_push (.int 0), sw_ld 0 3, sw_push (.int 0), sw_push (.int (-1)), sw_push (.int 0), sw_na 64, sw_ci m_X7_init 5, sw_cv 24 m_J2_add 1, sw_pop, sw_goto 6 [true, true, true, true]] l st P := rfl
theorem at_X5_all_6 : sw_at cf b_X5_all 6 l st P = sw_ex cf b_X5_all [sw_inc 3 1, sw_goto 5 [true, true, true, true]] l st P := rfl
theorem at_X5_all_7 : sw_at cf b_X5_all 7 l st P = sw_ex cf b_X5_all [sw_push (.int 0), sw_sti 3, sw_goto 8 [true, true, false, true]] l st P := rfl
theorem at_X5_all_8 : sw_at cf b_X5_all 8 l st P = sw_ex cf b_X5_all [sw_ld 0 3, sw_ld 2 0, sw_gf 4 3, sw_cv 24 m_J2_size 0, sw_ic 3 9 [false, true, false, false], sw_ld 2 1, sw_ld 2 0, sw_gf 4 3, sw_ld 0 3, sw_cv 24 m_J2_get 1, sw_ct [6], sw_cv 24 m_J2_add 1, sw_pop, sw_inc 3 1, sw_goto 8 [true, true, false, true]] l st P := rfl
theorem at_X5_all_9 : sw_at cf b_X5_all 9 l st P = sw_ex cf b_X5_all [sw_ld 2 1, sw_rv 2] l st P := rfl
theorem M_X5_emit (d : Nat) (as : List Value) (P : sw_P) (h : sw_wd 6 as = true) : sw_Z (d + 1) m_X5_emit as P = sw_at (sw_Z d) b_X5_emit 0 (sw_en 6 as) [] P := if_pos h
theorem at_X5_emit_0 : sw_at cf b_X5_emit 0 l st P = sw_ex cf b_X5_emit [sw_ld 2 0, sw_ld 0 1, sw_cv 4 m_X5_at 1, sw_sta 3, sw_ld 2 3, sw_gs 1, sw_cv 15 m_X16_is 1, sw_iz 0 1 [true, true, true, true, false, false], sw_ld 2 0, sw_push (.int 1), sw_ld 0 2, sw_push (.int 0), sw_push (.int 1), sw_na 64, sw_dup, sw_push (.int 0), sw_ld 2 3, sw_gf 15 1, sw_ast 64, sw_cv 4 m_X5_emit_2 4, sw_rv 0] l st P := rfl
theorem at_X5_emit_1 : sw_at cf b_X5_emit 1 l st P = sw_ex cf b_X5_emit [sw_ld 2 3, sw_gs 0, sw_cv 15 m_X16_is 1, sw_iz 0 2 [true, true, true, true, false, false], sw_ld 2 0, sw_push (.int 0), sw_ld 0 2, sw_ld 2 3, sw_gf 15 1, sw_push (.int 0), sw_na 64, sw_cv 4 m_X5_emit_2 4, sw_rv 0] l st P := rfl
theorem at_X5_emit_2 : sw_at cf b_X5_emit 2 l st P = sw_ex cf b_X5_emit [sw_ld 2 0, sw_gf 4 2, sw_ld 0 1, sw_ald 64, sw_ld 2 0, sw_ld 2 3, sw_cv 4 m_X5_plainCost 1, sw_ic 1 3 [true, true, true, true, false, false], sw_ld 2 0, sw_ld 2 3, sw_gf 15 1, sw_cv 4 m_X5_value 1, sw_sti 4, sw_ld 2 0, sw_ld 2 3, sw_gf 15 2, sw_cv 4 m_X5_value 1, sw_sti 5, sw_ld 2 0, sw_ld 2 3, sw_cs m_X5_opOf 1, sw_ld 0 2, sw_push (.int 0), sw_push (.int 2), sw_na 64, sw_dup, sw_push (.int 0), sw_ld 0 4, sw_ast 64, sw_dup, sw_push (.int 1), sw_ld 0 5, sw_ast 64, sw_cv 4 m_X5_emit_2 4, sw_rv 0] l st P := rfl
theorem at_X5_emit_3 : sw_at cf b_X5_emit 3 l st P = sw_ex cf b_X5_emit [sw_ld 2 0, sw_gf 4 2, sw_ld 0 1, sw_ald 64, sw_ld 2 0, sw_ld 2 3, sw_cv 4 m_X5_smallCost 1, sw_ic 1 6 [true, false, true, true, false, false], sw_ld 2 0, sw_ld 2 0, sw_ld 2 3, sw_cv 4 m_X5_small 1, sw_cv 4 m_X5_at 1, sw_gf 15 1, sw_sti 4, sw_ld 2 0, sw_push (.int 5), sw_ld 0 2, sw_ld 2 3, sw_gs 3, sw_cv 15 m_X16_is 1, sw_iz 0 4 [true, false, false, true, true, false], sw_ld 0 4, sw_in (fun x => -x), sw_goto 5 [true, false, false, true, false, false]] l st P := rfl
theorem at_X5_emit_4 : sw_at cf b_X5_emit 4 l st P = sw_ex cf b_X5_emit [sw_ld 0 4, sw_goto 5 [true, false, false, true, false, false]] l st P := rfl
theorem at_X5_emit_5 : sw_at cf b_X5_emit 5 l st P = sw_ex cf b_X5_emit [sw_push (.int 1), sw_na 64, sw_dup, sw_push (.int 0), sw_ld 2 0, sw_ld 2 3, sw_ld 2 0, sw_ld 2 3, sw_cv9 4 m_X5_small, sw_cs m_X5_other 2, sw_cv 4 m_X5_value 1, sw_ast 64, sw_cv 4 m_X5_emit_2 4, sw_rv 0] l st P := rfl
theorem at_X5_emit_6 : sw_at cf b_X5_emit 6 l st P = sw_ex cf b_X5_emit [sw_ld 2 0, sw_ld 2 3, sw_ld 0 2, sw_cv 4 m_X5_emitFused 2, sw_rv 0] l st P := rfl
theorem M_X5_emit_2 (d : Nat) (as : List Value) (P : sw_P) (h : sw_wd 6 as = true) : sw_Z (d + 1) m_X5_emit_2 as P = sw_at (sw_Z d) b_X5_emit_2 0 (sw_en 6 as) [] P := if_pos h
theorem at_X5_emit_2_0 : sw_at cf b_X5_emit_2 0 l st P = sw_ex cf b_X5_emit_2 [sw_ld 0 2, sw_push (.int (-1)), sw_ic 1 1 [true, true, true, true, true, false], sw_ld 2 0, sw_gf 4 4, sw_goto 2 [true, true, true, true, true, false]] l st P := rfl
theorem at_X5_emit_2_1 : sw_at cf b_X5_emit_2 1 l st P = sw_ex cf b_X5_emit_2 [sw_ld 0 2, sw_goto 2 [true, true, true, true, true, false]] l st P := rfl
theorem at_X5_emit_2_2 : sw_at cf b_X5_emit_2 2 l st P = sw_ex cf b_X5_emit_2 [sw_sti 5, sw_ld 2 0, sw_dup, sw_gf 4 4, sw_ld 0 2, sw_push (.int (-1)), sw_ic 1 3 [true, true, false, true, true, true], sw_push (.int 1), sw_goto 4 [true, true, false, true, true, true]] l st P := rfl
theorem at_X5_emit_2_3 : sw_at cf b_X5_emit_2 3 l st P = sw_ex cf b_X5_emit_2 [sw_push (.int 0), sw_goto 4 [true, true, false, true, true, true]] l st P := rfl
theorem at_X5_emit_2_4 : sw_at cf b_X5_emit_2 4 l st P = sw_ex cf b_X5_emit_2 [sw_ii (fun x y => x + y), sw_pf 4 4 0, sw_ld 2 0, sw_gf 4 3, sw_nw 6 [.int 0, .int 0, .null, .int 0, .int 0, .int 0], sw_dup, sw_ld 0 1, sw_ld 0 5, sw_ld 0 3, sw_ld 2 0, sw_gf 4 5, sw_ld 2 4, sw_ci m_X7_init 5, sw_cv 24 m_J2_add 1, sw_pop, sw_ld 0 5, sw_rv 0] l st P := rfl
theorem M_X5_value (d : Nat) (as : List Value) (P : sw_P) (h : sw_wd 2 as = true) : sw_Z (d + 1) m_X5_value as P = sw_at (sw_Z d) b_X5_value 0 (sw_en 2 as) [] P := if_pos h
theorem at_X5_value_0 : sw_at cf b_X5_value 0 l st P = sw_ex cf b_X5_value [sw_ld 2 0, sw_ld 0 1, sw_cv 4 m_X5_at 1, sw_gs 1, sw_cv 15 m_X16_is 1, sw_iz 0 1 [true, true], sw_ld 2 0, sw_ld 0 1, sw_cv 4 m_X5_at 1, sw_gf 15 1, sw_goto 2 [false, false]] l st P := rfl
theorem at_X5_value_1 : sw_at cf b_X5_value 1 l st P = sw_ex cf b_X5_value [sw_ld 2 0, sw_ld 0 1, sw_push (.int (-1)), sw_cv 4 m_X5_emit 2, sw_goto 2 [false, false]] l st P := rfl
theorem at_X5_value_2 : sw_at cf b_X5_value 2 l st P = sw_ex cf b_X5_value [sw_rv 0] l st P := rfl
theorem M_X5_emitFused (d : Nat) (as : List Value) (P : sw_P) (h : sw_wd 9 as = true) : sw_Z (d + 1) m_X5_emitFused as P = sw_at (sw_Z d) b_X5_emitFused 0 (sw_en 9 as) [] P := if_pos h
theorem at_X5_emitFused_0 : sw_at cf b_X5_emitFused 0 l st P = sw_ex cf b_X5_emitFused [sw_ld 2 0, sw_ld 2 1, sw_cv 4 m_X5_fused 1, sw_sti 3, sw_ld 0 3, sw_ld 2 1, sw_gf 15 2, sw_ic 1 1 [true, true, true, true, false, false, false, false, false], sw_push (.int 1), sw_goto 2 [true, true, true, true, false, false, false, false, false]] l st P := rfl
theorem at_X5_emitFused_1 : sw_at cf b_X5_emitFused 1 l st P = sw_ex cf b_X5_emitFused [sw_push (.int 0), sw_goto 2 [true, true, true, true, false, false, false, false, false]] l st P := rfl
theorem at_X5_emitFused_2 : sw_at cf b_X5_emitFused 2 l st P = sw_ex cf b_X5_emitFused [sw_sti 4, sw_ld 0 4, sw_iz 0 3 [true, true, true, true, true, false, false, false, false], sw_ld 2 0, sw_ld 2 1, sw_gf 15 1, sw_cv 4 m_X5_value 1, sw_goto 4 [true, true, true, true, true, false, false, false, false]] l st P := rfl
theorem at_X5_emitFused_3 : sw_at cf b_X5_emitFused 3 l st P = sw_ex cf b_X5_emitFused [sw_push (.int (-1)), sw_goto 4 [true, true, true, true, true, false, false, false, false]] l st P := rfl
theorem at_X5_emitFused_4 : sw_at cf b_X5_emitFused 4 l st P = sw_ex cf b_X5_emitFused [sw_sti 5, sw_ld 2 0, sw_ld 2 0, sw_ld 0 3, sw_cv 4 m_X5_at 1, sw_gf 15 1, sw_cv 4 m_X5_value 1, sw_sti 6, sw_ld 2 0, sw_ld 2 0, sw_ld 0 3, sw_cv 4 m_X5_at 1, sw_gf 15 2, sw_cv 4 m_X5_value 1, sw_sti 7, sw_ld 0 4, sw_iz 0 5 [true, true, true, false, false, false, true, true, false], sw_ld 0 5, sw_goto 6 [true, false, true, false, false, false, true, true, false]] l st P := rfl
theorem at_X5_emitFused_5 : sw_at cf b_X5_emitFused 5 l st P = sw_ex cf b_X5_emitFused [sw_ld 2 0, sw_ld 2 1, sw_gf 15 2, sw_cv 4 m_X5_value 1, sw_goto 6 [true, false, true, false, false, false, true, true, false]] l st P := rfl
theorem at_X5_emitFused_6 : sw_at cf b_X5_emitFused 6 l st P = sw_ex cf b_X5_emitFused [sw_sti 8, sw_ld 2 0, sw_push (.int 6), sw_ld 0 2, sw_push (.int 0), sw_push (.int 3), sw_na 64, sw_dup, sw_push (.int 0), sw_ld 0 6, sw_ast 64, sw_dup, sw_push (.int 1), sw_ld 0 7, sw_ast 64, sw_dup, sw_push (.int 2), sw_ld 0 8, sw_ast 64, sw_cv 4 m_X5_emit_2 4, sw_rv 0] l st P := rfl
theorem M_X5_entry (d : Nat) (as : List Value) (P : sw_P) (h : sw_wd 5 as = true) : sw_Z (d + 1) m_X5_entry as P = sw_at (sw_Z d) b_X5_entry 0 (sw_en 5 as) [] P := if_pos h
theorem at_X5_entry_0 : sw_at cf b_X5_entry 0 l st P = sw_ex cf b_X5_entry [sw_push (.int 0), sw_sti 1, sw_push (.int 0), sw_sti 2, sw_push (.int 0), sw_sti 3, sw_goto 1 [true, true, true, true, false]] l st P := rfl
theorem at_X5_entry_1 : sw_at cf b_X5_entry 1 l st P = sw_ex cf b_X5_entry [sw_ld 0 3, sw_ld 2 0, sw_gf 4 3, sw_cv 24 m_J2_size 0, sw_ic 3 8 [true, true, true, false, false], sw_push (.int 0), sw_sti 4, sw_goto 2 [true, true, true, true, true]] l st P := rfl
theorem at_X5_entry_2 : sw_at cf b_X5_entry 2 l st P = sw_ex cf b_X5_entry [sw_ld 0 4, sw_push (.int 8), sw_ic 3 5 [true, true, true, true, false], sw_ld 0 2, sw_ld 2 0, sw_gf 4 3, sw_ld 0 3, sw_cv 24 m_J2_get 1, sw_ct [6], sw_ld 0 4, sw_cv 6 m_X7_reads 1, sw_iz 5 3 [true, true, false, true, true], sw_ld 0 1, sw_ld 0 4, sw_cs m_X1_has 2, sw_iz 1 3 [true, true, false, true, true], sw_push (.int 1), sw_ld 0 4, sw_ii (fun x y => x <<< (y &&& 31)), sw_goto 4 [true, true, false, true, true]] l st P := rfl
theorem at_X5_entry_3 : sw_at cf b_X5_entry 3 l st P = sw_ex cf b_X5_entry [sw_push (.int 0), sw_goto 4 [true, true, false, true, true]] l st P := rfl
theorem at_X5_entry_4 : sw_at cf b_X5_entry 4 l st P = sw_ex cf b_X5_entry [sw_ii (fun x y => x ||| y), sw_sti 2, sw_inc 4 1, sw_goto 2 [true, true, true, true, true]] l st P := rfl
theorem at_X5_entry_5 : sw_at cf b_X5_entry 5 l st P = sw_ex cf b_X5_entry [sw_ld 0 1, sw_ld 2 0, sw_gf 4 3, sw_ld 0 3, sw_cv 24 m_J2_get 1, sw_ct [6], sw_gf 6 1, sw_push (.int 8), sw_ic 3 6 [true, false, true, true, false], sw_push (.int 1), sw_ld 2 0, sw_gf 4 3, sw_ld 0 3, sw_cv 24 m_J2_get 1, sw_ct [6], sw_gf 6 1, sw_ii (fun x y => x <<< (y &&& 31)), sw_goto 7 [true, false, true, true, false]] l st P := rfl
theorem at_X5_entry_6 : sw_at cf b_X5_entry 6 l st P = sw_ex cf b_X5_entry [sw_push (.int 0), sw_goto 7 [true, false, true, true, false]] l st P := rfl
theorem at_X5_entry_7 : sw_at cf b_X5_entry 7 l st P = sw_ex cf b_X5_entry [sw_ii (fun x y => x ||| y), sw_sti 1, sw_inc 3 1, sw_goto 1 [true, true, true, true, false]] l st P := rfl
theorem at_X5_entry_8 : sw_at cf b_X5_entry 8 l st P = sw_ex cf b_X5_entry [sw_ld 0 2, sw_ld 2 0, sw_gf 4 0, sw_gf 1 3, sw_ld 0 1, sw_push (.int (-1)), sw_ii (fun x y => x ^^^ y), sw_ii (fun x y => x &&& y), sw_ii (fun x y => x ||| y), sw_rv 0] l st P := rfl
theorem M_X6_init (d : Nat) (as : List Value) (P : sw_P) (h : sw_wd 4 as = true) : sw_Z (d + 1) m_X6_init as P = sw_at (sw_Z d) b_X6_init 0 (sw_en 4 as) [] P := if_pos h
theorem at_X6_init_0 : sw_at cf b_X6_init 0 l st P = sw_ex cf b_X6_init [sw_ld 2 0, sw_oin, sw_ld 2 0, sw_nw 24 [.int 0, .null, .int 0], sw_dup, sw_ci m_J2_init 0, sw_pf 5 2 2, sw_ld 2 0, sw_ld 2 1, sw_pf 5 0 2, sw_ld 2 0, sw_ld 2 2, sw_pf 5 1 2, sw_ld 2 0, sw_ld 2 1, sw_cv 24 m_J2_size 0, sw_na 69, sw_pf 5 3 2, sw_ld 2 0, sw_ld 2 1, sw_cv 24 m_J2_size 0, sw_na 64, sw_pf 5 4 2, sw_push (.int 0), sw_sti 3, sw_goto 1 [true, true, false, true]] l st P := rfl
theorem at_X6_init_1 : sw_at cf b_X6_init 1 l st P = sw_ex cf b_X6_init [sw_ld 0 3, sw_ld 2 0, sw_gf 5 4, sw_al, sw_ic 3 2 [true, true, false, false], sw_ld 2 0, sw_gf 5 3, sw_ld 0 3, sw_ld 2 0, sw_ld 0 3, sw_cv 5 m_X6_needsOf 1, sw_asr 69 [65], sw_inc 3 1, sw_goto 1 [true, true, false, true]] l st P := rfl
theorem at_X6_init_2 : sw_at cf b_X6_init 2 l st P = sw_ex cf b_X6_init [sw_ld 2 0, sw_gf 5 4, sw_al, sw_push (.int 1), sw_ii (fun x y => x - y), sw_sti 3, sw_goto 3 [true, true, false, true]] l st P := rfl
theorem at_X6_init_3 : sw_at cf b_X6_init 3 l st P = sw_ex cf b_X6_init [sw_ld 0 3, sw_iz 2 6 [false, false, false, false], sw_ld 2 1, sw_ld 0 3, sw_cv 24 m_J2_get 1, sw_ct [6], sw_ld 2 1, sw_ld 0 3, sw_cv 24 m_J2_get 1, sw_ct [6], sw_gf 6 4, sw_push (.int (-1)), sw_ic 1 4 [true, true, false, true], sw_push (.int 0), sw_goto 5 [true, true, false, true]] l st P := rfl
theorem at_X6_init_4 : sw_at cf b_X6_init 4 l st P = sw_ex cf b_X6_init [sw_ld 2 0, sw_ld 0 3, sw_cv 5 m_X6_heightOf 1, sw_goto 5 [true, true, false, true]] l st P := rfl
theorem at_X6_init_5 : sw_at cf b_X6_init 5 l st P = sw_ex cf b_X6_init [sw_pf 6 5 0, sw_inc 3 (-1), sw_goto 3 [true, true, false, true]] l st P := rfl
theorem at_X6_init_6 : sw_at cf b_X6_init 6 l st P = sw_ex cf b_X6_init [sw_ret] l st P := rfl
theorem M_X6_needsOf (d : Nat) (as : List Value) (P : sw_P) (h : sw_wd 4 as = true) : sw_Z (d + 1) m_X6_needsOf as P = sw_at (sw_Z d) b_X6_needsOf 0 (sw_en 4 as) [] P := if_pos h
theorem at_X6_needsOf_0 : sw_at cf b_X6_needsOf 0 l st P = sw_ex cf b_X6_needsOf [sw_ld 0 1, sw_na 65, sw_sta 2, sw_push (.int 0), sw_sti 3, sw_goto 1 [true, true, true, true]] l st P := rfl
theorem at_X6_needsOf_1 : sw_at cf b_X6_needsOf 1 l st P = sw_ex cf b_X6_needsOf [sw_ld 0 3, sw_ld 0 1, sw_ic 3 6 [false, false, true, false], sw_ld 2 2, sw_ld 0 3, sw_ld 2 0, sw_gf 5 0, sw_ld 0 3, sw_cv 24 m_J2_get 1, sw_ct [6], sw_gf 6 4, sw_ld 2 0, sw_gf 5 0, sw_ld 0 1, sw_cv 24 m_J2_get 1, sw_ct [6], sw_gf 6 4, sw_ic 1 2 [true, true, true, true], sw_ld 2 0, sw_gf 5 0, sw_ld 0 1, sw_cv 24 m_J2_get 1, sw_ct [6], sw_ld 2 0, sw_gf 5 0, sw_ld 0 3, sw_cv 24 m_J2_get 1, sw_ct [6], sw_cv 6 m_X7_needs 1, sw_iz 0 2 [true, true, true, true], sw_push (.int 1), sw_goto 3 [true, true, true, true]] l st P := rfl
theorem at_X6_needsOf_2 : sw_at cf b_X6_needsOf 2 l st P = sw_ex cf b_X6_needsOf [sw_push (.int 0), sw_goto 3 [true, true, true, true]] l st P := rfl
theorem at_X6_needsOf_3 : sw_at cf b_X6_needsOf 3 l st P = sw_ex cf b_X6_needsOf [sw_ast 65, sw_ld 2 0, sw_gf 5 4, sw_ld 0 1, sw_du2, sw_ald 64, sw_ld 2 2, sw_ld 0 3, sw_ald 65, sw_iz 0 4 [true, true, true, true], sw_push (.int 1), sw_goto 5 [true, true, true, true]] l st P := rfl
theorem at_X6_needsOf_4 : sw_at cf b_X6_needsOf 4 l st P = sw_ex cf b_X6_needsOf [sw_push (.int 0), sw_goto 5 [true, true, true, true]] l st P := rfl
theorem at_X6_needsOf_5 : sw_at cf b_X6_needsOf 5 l st P = sw_ex cf b_X6_needsOf [sw_ii (fun x y => x + y), sw_ast 64, sw_inc 3 1, sw_goto 1 [true, true, true, true]] l st P := rfl
theorem at_X6_needsOf_6 : sw_at cf b_X6_needsOf 6 l st P = sw_ex cf b_X6_needsOf [sw_ld 2 2, sw_rv 2] l st P := rfl
theorem M_X6_heightOf (d : Nat) (as : List Value) (P : sw_P) (h : sw_wd 4 as = true) : sw_Z (d + 1) m_X6_heightOf as P = sw_at (sw_Z d) b_X6_heightOf 0 (sw_en 4 as) [] P := if_pos h
theorem at_X6_heightOf_0 : sw_at cf b_X6_heightOf 0 l st P = sw_ex cf b_X6_heightOf [sw_push (.int 0), sw_sti 2, sw_ld 0 1, sw_push (.int 1), sw_ii (fun x y => x + y), sw_sti 3, sw_goto 1 [true, true, true, true]] l st P := rfl
theorem at_X6_heightOf_1 : sw_at cf b_X6_heightOf 1 l st P = sw_ex cf b_X6_heightOf [sw_ld 0 3, sw_ld 2 0, sw_gf 5 4, sw_al, sw_ic 3 4 [true, true, true, false], sw_ld 2 0, sw_gf 5 3, sw_ld 0 3, sw_ald 69, sw_ld 0 1, sw_ald 65, sw_iz 0 2 [true, true, true, true], sw_ld 0 2, sw_ld 2 0, sw_gf 5 0, sw_ld 0 3, sw_cv 24 m_J2_get 1, sw_ct [6], sw_gf 6 5, sw_mm sw_max, sw_goto 3 [true, true, false, true]] l st P := rfl
theorem at_X6_heightOf_2 : sw_at cf b_X6_heightOf 2 l st P = sw_ex cf b_X6_heightOf [sw_ld 0 2, sw_goto 3 [true, true, false, true]] l st P := rfl
theorem at_X6_heightOf_3 : sw_at cf b_X6_heightOf 3 l st P = sw_ex cf b_X6_heightOf [sw_sti 2, sw_inc 3 1, sw_goto 1 [true, true, true, true]] l st P := rfl
theorem at_X6_heightOf_4 : sw_at cf b_X6_heightOf 4 l st P = sw_ex cf b_X6_heightOf [sw_ld 2 0, sw_gf 5 1, sw_ld 2 0, sw_gf 5 0, sw_ld 0 1, sw_cv 24 m_J2_get 1, sw_ct [6], sw_gf 6 0, sw_cv 2 m_X3_latency 1, sw_ld 0 2, sw_ii (fun x y => x + y), sw_rv 0] l st P := rfl
theorem M_X6_all (d : Nat) (as : List Value) (P : sw_P) (h : sw_wd 4 as = true) : sw_Z (d + 1) m_X6_all as P = sw_at (sw_Z d) b_X6_all 0 (sw_en 4 as) [] P := if_pos h
theorem at_X6_all_0 : sw_at cf b_X6_all 0 l st P = sw_ex cf b_X6_all [sw_ld 0 1, sw_iz 0 1 [true, false, false, false], sw_ld 2 0, sw_gf 5 0, sw_rv 2] l st P := rfl
theorem at_X6_all_1 : sw_at cf b_X6_all 1 l st P = sw_ex cf b_X6_all [sw_push (.int 0), sw_sti 2, sw_goto 2 [true, false, true, false]] l st P := rfl
theorem at_X6_all_2 : sw_at cf b_X6_all 2 l st P = sw_ex cf b_X6_all [sw_ld 0 2, sw_ld 2 0, sw_gf 5 4, sw_al, sw_ic 3 3 [true, false, false, false], sw_ld 2 0, sw_gf 5 0, sw_ld 0 2, sw_cv 24 m_J2_get 1, sw_ct [6], sw_gf 6 4, sw_push (.int (-1)), sw_ic 1 3 [true, false, false, false], sw_ld 2 0, sw_ld 0 2, sw_cv 5 m_X6_place 1, sw_inc 2 1, sw_goto 2 [true, false, true, false]] l st P := rfl
theorem at_X6_all_3 : sw_at cf b_X6_all 3 l st P = sw_ex cf b_X6_all [sw_push (.int 0), sw_sti 2, sw_goto 4 [true, false, true, false]] l st P := rfl
theorem at_X6_all_4 : sw_at cf b_X6_all 4 l st P = sw_ex cf b_X6_all [sw_ld 0 2, sw_push (.int 4), sw_ic 3 7 [true, false, false, false], sw_ld 2 0, sw_ld 0 2, sw_cv 5 m_X6_next 1, sw_sti 3, sw_goto 5 [true, false, true, true]] l st P := rfl
theorem at_X6_all_5 : sw_at cf b_X6_all 5 l st P = sw_ex cf b_X6_all [sw_ld 0 3, sw_push (.int (-1)), sw_ic 0 6 [true, false, true, false], sw_ld 2 0, sw_ld 0 3, sw_cv 5 m_X6_place 1, sw_ld 2 0, sw_ld 0 2, sw_cv 5 m_X6_next 1, sw_sti 3, sw_goto 5 [true, false, true, true]] l st P := rfl
theorem at_X6_all_6 : sw_at cf b_X6_all 6 l st P = sw_ex cf b_X6_all [sw_inc 2 1, sw_goto 4 [true, false, true, false]] l st P := rfl
theorem at_X6_all_7 : sw_at cf b_X6_all 7 l st P = sw_ex cf b_X6_all [sw_ld 2 0, sw_gf 5 2, sw_rv 2] l st P := rfl
theorem M_X6_place (d : Nat) (as : List Value) (P : sw_P) (h : sw_wd 3 as = true) : sw_Z (d + 1) m_X6_place as P = sw_at (sw_Z d) b_X6_place 0 (sw_en 3 as) [] P := if_pos h
theorem at_X6_place_0 : sw_at cf b_X6_place 0 l st P = sw_ex cf b_X6_place [sw_ld 2 0, sw_gf 5 2, sw_ld 2 0, sw_gf 5 0, sw_ld 0 1, sw_cv 24 m_J2_get 1, sw_ct [6], sw_cv 24 m_J2_add 1, sw_pop, sw_ld 2 0, sw_gf 5 4, sw_ld 0 1, sw_push (.int (-1)), sw_ast 64, sw_ld 0 1, sw_push (.int 1), sw_ii (fun x y => x + y), sw_sti 2, sw_goto 1 [true, true, true]] l st P := rfl
theorem at_X6_place_1 : sw_at cf b_X6_place 1 l st P = sw_ex cf b_X6_place [sw_ld 0 2, sw_ld 2 0, sw_gf 5 4, sw_al, sw_ic 3 4 [false, false, false], sw_ld 2 0, sw_gf 5 4, sw_ld 0 2, sw_du2, sw_ald 64, sw_ld 2 0, sw_gf 5 3, sw_ld 0 2, sw_ald 69, sw_ld 0 1, sw_ald 65, sw_iz 0 2 [true, true, true], sw_push (.int 1), sw_goto 3 [true, true, true]] l st P := rfl
theorem at_X6_place_2 : sw_at cf b_X6_place 2 l st P = sw_ex cf b_X6_place [sw_push (.int 0), sw_goto 3 [true, true, true]] l st P := rfl
theorem at_X6_place_3 : sw_at cf b_X6_place 3 l st P = sw_ex cf b_X6_place [sw_ii (fun x y => x - y), sw_ast 64, sw_inc 2 1, sw_goto 1 [true, true, true]] l st P := rfl
theorem at_X6_place_4 : sw_at cf b_X6_place 4 l st P = sw_ex cf b_X6_place [sw_ret] l st P := rfl
theorem M_X6_next (d : Nat) (as : List Value) (P : sw_P) (h : sw_wd 5 as = true) : sw_Z (d + 1) m_X6_next as P = sw_at (sw_Z d) b_X6_next 0 (sw_en 5 as) [] P := if_pos h
theorem at_X6_next_0 : sw_at cf b_X6_next 0 l st P = sw_ex cf b_X6_next [sw_push (.int (-1)), sw_sti 2, sw_push (.int 0), sw_sti 3, sw_goto 1 [true, true, true, true, false]] l st P := rfl
theorem at_X6_next_1 : sw_at cf b_X6_next 1 l st P = sw_ex cf b_X6_next [sw_ld 0 3, sw_ld 2 0, sw_gf 5 4, sw_al, sw_ic 3 6 [false, false, true, false, false], sw_ld 2 0, sw_gf 5 4, sw_ld 0 3, sw_ald 64, sw_iz 1 2 [true, true, true, true, false], sw_ld 2 0, sw_gf 5 0, sw_ld 0 3, sw_cv 24 m_J2_get 1, sw_ct [6], sw_gf 6 4, sw_ld 0 1, sw_ic 1 2 [true, true, true, true, false], sw_push (.int 1), sw_goto 3 [true, true, true, true, false]] l st P := rfl
theorem at_X6_next_2 : sw_at cf b_X6_next 2 l st P = sw_ex cf b_X6_next [sw_push (.int 0), sw_goto 3 [true, true, true, true, false]] l st P := rfl
theorem at_X6_next_3 : sw_at cf b_X6_next 3 l st P = sw_ex cf b_X6_next [sw_sti 4, sw_ld 0 4, sw_iz 0 5 [true, true, true, true, false], sw_ld 0 2, sw_push (.int (-1)), sw_ic 0 4 [true, true, false, true, false], sw_ld 2 0, sw_gf 5 0, sw_ld 0 3, sw_cv 24 m_J2_get 1, sw_ct [6], sw_gf 6 5, sw_ld 2 0, sw_gf 5 0, sw_ld 0 2, sw_cv 24 m_J2_get 1, sw_ct [6], sw_gf 6 5, sw_ic 5 5 [true, true, true, true, false], sw_goto 4 [true, true, false, true, false]] l st P := rfl
theorem at_X6_next_4 : sw_at cf b_X6_next 4 l st P = sw_ex cf b_X6_next [sw_ld 0 3, sw_sti 2, sw_goto 5 [true, true, true, true, false]] l st P := rfl
theorem at_X6_next_5 : sw_at cf b_X6_next 5 l st P = sw_ex cf b_X6_next [sw_inc 3 1, sw_goto 1 [true, true, true, true, false]] l st P := rfl
theorem at_X6_next_6 : sw_at cf b_X6_next 6 l st P = sw_ex cf b_X6_next [sw_ld 0 2, sw_rv 0] l st P := rfl
theorem M_X7_init (d : Nat) (as : List Value) (P : sw_P) (h : sw_wd 6 as = true) : sw_Z (d + 1) m_X7_init as P = sw_at (sw_Z d) b_X7_init 0 (sw_en 6 as) [] P := if_pos h
theorem at_X7_init_0 : sw_at cf b_X7_init 0 l st P = sw_ex cf b_X7_init [sw_ld 2 0, sw_oin, sw_ld 2 0, sw_ld 0 1, sw_pf 6 0 0, sw_ld 2 0, sw_ld 0 2, sw_pf 6 1 0, sw_ld 2 0, sw_ld 0 3, sw_pf 6 3 0, sw_ld 2 0, sw_ld 0 4, sw_pf 6 4 0, sw_ld 2 0, sw_ld 2 5, sw_pf 6 2 2, sw_ret] l st P := rfl
theorem M_X7_reads (d : Nat) (as : List Value) (P : sw_P) (h : sw_wd 7 as = true) : sw_Z (d + 1) m_X7_reads as P = sw_at (sw_Z d) b_X7_reads 0 (sw_en 7 as) [] P := if_pos h
theorem at_X7_reads_0 : sw_at cf b_X7_reads 0 l st P = sw_ex cf b_X7_reads [sw_push (.int 0), sw_sti 2, sw_ld 2 0, sw_gf 6 2, sw_sta 3, sw_ld 2 3, sw_al, sw_sti 4, sw_push (.int 0), sw_sti 5, sw_goto 1 [false, true, true, true, true, true, false]] l st P := rfl
theorem at_X7_reads_1 : sw_at cf b_X7_reads 1 l st P = sw_ex cf b_X7_reads [sw_ld 0 5, sw_ld 0 4, sw_ic 3 4 [false, false, true, false, false, false, false], sw_ld 2 3, sw_ld 0 5, sw_ald 64, sw_sti 6, sw_ld 0 2, sw_ld 0 6, sw_ld 0 1, sw_ic 1 2 [false, true, false, true, true, true, false], sw_push (.int 1), sw_goto 3 [false, true, false, true, true, true, false]] l st P := rfl
theorem at_X7_reads_2 : sw_at cf b_X7_reads 2 l st P = sw_ex cf b_X7_reads [sw_push (.int 0), sw_goto 3 [false, true, false, true, true, true, false]] l st P := rfl
theorem at_X7_reads_3 : sw_at cf b_X7_reads 3 l st P = sw_ex cf b_X7_reads [sw_ii (fun x y => x + y), sw_sti 2, sw_inc 5 1, sw_goto 1 [false, true, true, true, true, true, false]] l st P := rfl
theorem at_X7_reads_4 : sw_at cf b_X7_reads 4 l st P = sw_ex cf b_X7_reads [sw_ld 0 2, sw_rv 0] l st P := rfl
theorem M_X7_needs (d : Nat) (as : List Value) (P : sw_P) (h : sw_wd 3 as = true) : sw_Z (d + 1) m_X7_needs as P = sw_at (sw_Z d) b_X7_needs 0 (sw_en 3 as) [] P := if_pos h
theorem at_X7_needs_0 : sw_at cf b_X7_needs 0 l st P = sw_ex cf b_X7_needs [sw_ld 2 0, sw_ld 2 1, sw_gf 6 1, sw_cv 6 m_X7_reads 1, sw_iz 4 1 [true, true, false], sw_ld 2 0, sw_gf 6 1, sw_ld 2 1, sw_gf 6 1, sw_ic 0 1 [true, true, false], sw_ld 2 1, sw_ld 2 0, sw_gf 6 1, sw_cv 6 m_X7_reads 1, sw_iz 5 2 [true, true, false], sw_goto 1 [true, true, false]] l st P := rfl
theorem at_X7_needs_1 : sw_at cf b_X7_needs 1 l st P = sw_ex cf b_X7_needs [sw_push (.int 1), sw_goto 3 [true, true, false]] l st P := rfl
theorem at_X7_needs_2 : sw_at cf b_X7_needs 2 l st P = sw_ex cf b_X7_needs [sw_push (.int 0), sw_goto 3 [true, true, false]] l st P := rfl
theorem at_X7_needs_3 : sw_at cf b_X7_needs 3 l st P = sw_ex cf b_X7_needs [sw_sti 2, sw_ld 0 2, sw_iz 1 4 [false, false, false], sw_ld 2 0, sw_push (.int 9), sw_cv 6 m_X7_is 1, sw_iz 0 5 [false, false, false], sw_ld 2 1, sw_push (.int 9), sw_cv 6 m_X7_is 1, sw_iz 0 5 [false, false, false], sw_goto 4 [false, false, false]] l st P := rfl
theorem at_X7_needs_4 : sw_at cf b_X7_needs 4 l st P = sw_ex cf b_X7_needs [sw_push (.int 1), sw_goto 6 [false, false, false]] l st P := rfl
theorem at_X7_needs_5 : sw_at cf b_X7_needs 5 l st P = sw_ex cf b_X7_needs [sw_push (.int 0), sw_goto 6 [false, false, false]] l st P := rfl
theorem at_X7_needs_6 : sw_at cf b_X7_needs 6 l st P = sw_ex cf b_X7_needs [sw_rv 1] l st P := rfl
theorem M_X7_is (d : Nat) (as : List Value) (P : sw_P) (h : sw_wd 2 as = true) : sw_Z (d + 1) m_X7_is as P = sw_at (sw_Z d) b_X7_is 0 (sw_en 2 as) [] P := if_pos h
theorem at_X7_is_0 : sw_at cf b_X7_is 0 l st P = sw_ex cf b_X7_is [sw_ld 2 0, sw_gf 6 0, sw_ld 0 1, sw_ic 1 1 [false, false], sw_push (.int 1), sw_goto 2 [false, false]] l st P := rfl
theorem at_X7_is_1 : sw_at cf b_X7_is 1 l st P = sw_ex cf b_X7_is [sw_push (.int 0), sw_goto 2 [false, false]] l st P := rfl
theorem at_X7_is_2 : sw_at cf b_X7_is 2 l st P = sw_ex cf b_X7_is [sw_rv 1] l st P := rfl
theorem M_X8_init (d : Nat) (as : List Value) (P : sw_P) (h : sw_wd 7 as = true) : sw_Z (d + 1) m_X8_init as P = sw_at (sw_Z d) b_X8_init 0 (sw_en 7 as) [] P := if_pos h
theorem at_X8_init_0 : sw_at cf b_X8_init 0 l st P = sw_ex cf b_X8_init [sw_ld 2 0, sw_oin, sw_ld 2 0, sw_nw 24 [.int 0, .null, .int 0], sw_dup, sw_ci m_J2_init 0, sw_pf 7 3 2, sw_ld 2 0, sw_ld 2 1, sw_pf 7 0 2, sw_ld 2 0, sw_ld 2 2, sw_pf 7 1 2, sw_ld 2 0, sw_ld 2 3, sw_pf 7 2 2, sw_push (.int 0), sw_sti 5, sw_goto 1 [true, false, false, false, true, true, false]] l st P := rfl
theorem at_X8_init_1 : sw_at cf b_X8_init 1 l st P = sw_ex cf b_X8_init [sw_ld 0 5, sw_ld 0 4, sw_ic 3 3 [true, false, false, false, false, false, false], sw_ld 2 0, sw_ld 0 5, sw_cv 7 m_X8_lifeOf 1, sw_sta 6, sw_ld 2 6, sw_gf 8 1, sw_push (.int (-1)), sw_ic 0 2 [true, false, false, false, true, true, false], sw_ld 2 0, sw_ld 2 6, sw_cv 7 m_X8_stretch 1, sw_ld 2 0, sw_ld 2 6, sw_cv 7 m_X8_put 1, sw_goto 2 [true, false, false, false, true, true, false]] l st P := rfl
theorem at_X8_init_2 : sw_at cf b_X8_init 2 l st P = sw_ex cf b_X8_init [sw_inc 5 1, sw_goto 1 [true, false, false, false, true, true, false]] l st P := rfl
theorem at_X8_init_3 : sw_at cf b_X8_init 3 l st P = sw_ex cf b_X8_init [sw_push (.int 0), sw_sti 5, sw_goto 4 [true, false, false, false, false, true, false]] l st P := rfl
theorem at_X8_init_4 : sw_at cf b_X8_init 4 l st P = sw_ex cf b_X8_init [sw_ld 0 5, sw_ld 2 0, sw_gf 7 3, sw_cv 24 m_J2_size 0, sw_ic 3 5 [true, false, false, false, false, false, false], sw_ld 2 0, sw_ld 2 0, sw_gf 7 3, sw_ld 0 5, sw_cv 24 m_J2_get 1, sw_ct [8], sw_cv 7 m_X8_give 1, sw_inc 5 1, sw_goto 4 [true, false, false, false, false, true, false]] l st P := rfl
theorem at_X8_init_5 : sw_at cf b_X8_init 5 l st P = sw_ex cf b_X8_init [sw_ld 2 0, sw_cv 7 m_X8_giveSlots 0, sw_ret] l st P := rfl
theorem M_X8_lifeOf (d : Nat) (as : List Value) (P : sw_P) (h : sw_wd 5 as = true) : sw_Z (d + 1) m_X8_lifeOf as P = sw_at (sw_Z d) b_X8_lifeOf 0 (sw_en 5 as) [] P := if_pos h
theorem at_X8_lifeOf_0 : sw_at cf b_X8_lifeOf 0 l st P = sw_ex cf b_X8_lifeOf [sw_nw 8 [.int 0, .int 0, .int 0, .int 0, .int 0, .int 0, .int 0, .int 0, .int 0, .int 0, .null], sw_dup, sw_ld 0 1, sw_ci m_X9_init 1, sw_sta 2, sw_push (.int 0), sw_sti 3, sw_goto 1 [true, true, true, true, false]] l st P := rfl
theorem at_X8_lifeOf_1 : sw_at cf b_X8_lifeOf 1 l st P = sw_ex cf b_X8_lifeOf [sw_ld 0 3, sw_ld 2 0, sw_gf 7 0, sw_cv 24 m_J2_size 0, sw_ic 3 4 [false, false, true, false, false], sw_ld 2 0, sw_gf 7 0, sw_ld 0 3, sw_cv 24 m_J2_get 1, sw_ct [6], sw_sta 4, sw_ld 2 4, sw_gf 6 1, sw_ld 0 1, sw_ic 0 2 [true, true, true, true, true], sw_ld 2 4, sw_ld 0 1, sw_cv 6 m_X7_reads 1, sw_iz 5 3 [true, true, true, true, false], sw_goto 2 [true, true, true, true, true]] l st P := rfl
theorem at_X8_lifeOf_2 : sw_at cf b_X8_lifeOf 2 l st P = sw_ex cf b_X8_lifeOf [sw_ld 2 2, sw_ld 0 3, sw_ld 2 4, sw_ld 2 0, sw_ld 2 4, sw_cv 7 m_X8_timesOf 1, sw_cv 8 m_X9_touch 3, sw_goto 3 [true, true, true, true, false]] l st P := rfl
theorem at_X8_lifeOf_3 : sw_at cf b_X8_lifeOf 3 l st P = sw_ex cf b_X8_lifeOf [sw_inc 3 1, sw_goto 1 [true, true, true, true, false]] l st P := rfl
theorem at_X8_lifeOf_4 : sw_at cf b_X8_lifeOf 4 l st P = sw_ex cf b_X8_lifeOf [sw_ld 2 2, sw_rv 2] l st P := rfl
theorem M_X8_timesOf (d : Nat) (as : List Value) (P : sw_P) (h : sw_wd 2 as = true) : sw_Z (d + 1) m_X8_timesOf as P = sw_at (sw_Z d) b_X8_timesOf 0 (sw_en 2 as) [] P := if_pos h
theorem at_X8_timesOf_0 : sw_at cf b_X8_timesOf 0 l st P = sw_ex cf b_X8_timesOf [sw_ld 2 1, sw_gf 6 4, sw_push (.int (-1)), sw_ic 1 1 [true, true], sw_push (.int 1), sw_goto 2 [false, false]] l st P := rfl
theorem at_X8_timesOf_1 : sw_at cf b_X8_timesOf 1 l st P = sw_ex cf b_X8_timesOf [sw_ld 2 0, sw_gf 7 1, sw_gf 1 2, sw_ld 2 1, sw_gf 6 4, sw_ald 64, sw_goto 2 [false, false]] l st P := rfl
theorem at_X8_timesOf_2 : sw_at cf b_X8_timesOf 2 l st P = sw_ex cf b_X8_timesOf [sw_rv 0] l st P := rfl
theorem M_X8_stretch (d : Nat) (as : List Value) (P : sw_P) (h : sw_wd 4 as = true) : sw_Z (d + 1) m_X8_stretch as P = sw_at (sw_Z d) b_X8_stretch 0 (sw_en 4 as) [] P := if_pos h
theorem at_X8_stretch_0 : sw_at cf b_X8_stretch 0 l st P = sw_ex cf b_X8_stretch [sw_ld 2 0, sw_gf 7 0, sw_ld 2 1, sw_gf 8 2, sw_cv 24 m_J2_get 1, sw_ct [6], sw_gf 6 4, sw_sti 2, sw_ld 2 1, sw_gf 8 0, sw_push (.int 8), sw_ic 3 1 [true, true, true, false], sw_ld 2 0, sw_gf 7 1, sw_gf 1 3, sw_ld 2 1, sw_gf 8 0, sw_cs m_X1_has 2, sw_iz 0 1 [true, true, true, false], sw_ld 2 1, sw_ld 2 0, sw_gf 7 0, sw_cv 24 m_J2_size 0, sw_pf 8 2 0, sw_goto 2 [true, true, false, false]] l st P := rfl
theorem at_X8_stretch_1 : sw_at cf b_X8_stretch 1 l st P = sw_ex cf b_X8_stretch [sw_ld 0 2, sw_push (.int (-1)), sw_ic 0 2 [true, true, false, false], sw_ld 2 0, sw_gf 7 1, sw_gf 1 2, sw_ld 0 2, sw_ald 64, sw_push (.int 1), sw_ic 5 2 [true, true, false, false], sw_ld 2 1, sw_gf 8 1, sw_ld 2 0, sw_ld 0 2, sw_push (.int 0), sw_cv 7 m_X8_edge 2, sw_ic 3 2 [true, true, false, false], sw_ld 2 1, sw_ld 2 0, sw_ld 0 2, sw_push (.int 1), sw_cv 7 m_X8_edge 2, sw_pf 8 2 0, sw_goto 2 [true, true, false, false]] l st P := rfl
theorem at_X8_stretch_2 : sw_at cf b_X8_stretch 2 l st P = sw_ex cf b_X8_stretch [sw_push (.int 0), sw_sti 3, sw_goto 3 [true, true, false, true]] l st P := rfl
theorem at_X8_stretch_3 : sw_at cf b_X8_stretch 3 l st P = sw_ex cf b_X8_stretch [sw_ld 0 3, sw_ld 2 0, sw_gf 7 0, sw_cv 24 m_J2_size 0, sw_ic 3 6 [false, false, false, false], sw_ld 2 1, sw_dup, sw_gf 8 6, sw_ld 2 0, sw_gf 7 0, sw_ld 0 3, sw_cv 24 m_J2_get 1, sw_ct [6], sw_push (.int 9), sw_cv 6 m_X7_is 1, sw_iz 0 4 [true, true, false, true], sw_ld 2 1, sw_ld 0 3, sw_cv 8 m_X9_crosses 1, sw_iz 0 4 [true, true, false, true], sw_push (.int 1), sw_goto 5 [true, true, false, true]] l st P := rfl
theorem at_X8_stretch_4 : sw_at cf b_X8_stretch 4 l st P = sw_ex cf b_X8_stretch [sw_push (.int 0), sw_goto 5 [true, true, false, true]] l st P := rfl
theorem at_X8_stretch_5 : sw_at cf b_X8_stretch 5 l st P = sw_ex cf b_X8_stretch [sw_ii (fun x y => x + y), sw_pf 8 6 0, sw_inc 3 1, sw_goto 3 [true, true, false, true]] l st P := rfl
theorem at_X8_stretch_6 : sw_at cf b_X8_stretch 6 l st P = sw_ex cf b_X8_stretch [sw_ret] l st P := rfl
theorem M_X8_edge (d : Nat) (as : List Value) (P : sw_P) (h : sw_wd 5 as = true) : sw_Z (d + 1) m_X8_edge as P = sw_at (sw_Z d) b_X8_edge 0 (sw_en 5 as) [] P := if_pos h
theorem at_X8_edge_0 : sw_at cf b_X8_edge 0 l st P = sw_ex cf b_X8_edge [sw_push (.int (-1)), sw_sti 3, sw_push (.int 0), sw_sti 4, sw_goto 1 [true, true, true, true, true]] l st P := rfl
theorem at_X8_edge_1 : sw_at cf b_X8_edge 1 l st P = sw_ex cf b_X8_edge [sw_ld 0 4, sw_ld 2 0, sw_gf 7 0, sw_cv 24 m_J2_size 0, sw_ic 3 6 [false, false, false, true, false], sw_ld 2 0, sw_gf 7 0, sw_ld 0 4, sw_cv 24 m_J2_get 1, sw_ct [6], sw_gf 6 4, sw_ld 0 1, sw_ic 1 5 [true, true, true, true, true], sw_ld 0 2, sw_iz 0 2 [true, true, true, true, true], sw_ld 0 4, sw_push (.int 1), sw_ii (fun x y => x + y), sw_goto 4 [true, true, true, false, true]] l st P := rfl
theorem at_X8_edge_2 : sw_at cf b_X8_edge 2 l st P = sw_ex cf b_X8_edge [sw_ld 0 3, sw_push (.int (-1)), sw_ic 1 3 [true, true, true, true, true], sw_ld 0 4, sw_goto 4 [true, true, true, false, true]] l st P := rfl
theorem at_X8_edge_3 : sw_at cf b_X8_edge 3 l st P = sw_ex cf b_X8_edge [sw_ld 0 3, sw_goto 4 [true, true, true, false, true]] l st P := rfl
theorem at_X8_edge_4 : sw_at cf b_X8_edge 4 l st P = sw_ex cf b_X8_edge [sw_sti 3, sw_goto 5 [true, true, true, true, true]] l st P := rfl
theorem at_X8_edge_5 : sw_at cf b_X8_edge 5 l st P = sw_ex cf b_X8_edge [sw_inc 4 1, sw_goto 1 [true, true, true, true, true]] l st P := rfl
theorem at_X8_edge_6 : sw_at cf b_X8_edge 6 l st P = sw_ex cf b_X8_edge [sw_ld 0 3, sw_rv 0] l st P := rfl
theorem M_X8_put (d : Nat) (as : List Value) (P : sw_P) (h : sw_wd 3 as = true) : sw_Z (d + 1) m_X8_put as P = sw_at (sw_Z d) b_X8_put 0 (sw_en 3 as) [] P := if_pos h
theorem at_X8_put_0 : sw_at cf b_X8_put 0 l st P = sw_ex cf b_X8_put [sw_ld 2 0, sw_gf 7 3, sw_cv 24 m_J2_size 0, sw_sti 2, sw_goto 1 [true, true, true]] l st P := rfl
theorem at_X8_put_1 : sw_at cf b_X8_put 1 l st P = sw_ex cf b_X8_put [sw_ld 0 2, sw_iz 5 2 [true, true, true], sw_ld 2 0, sw_gf 7 3, sw_ld 0 2, sw_push (.int 1), sw_ii (fun x y => x - y), sw_cv 24 m_J2_get 1, sw_ct [8], sw_gf 8 1, sw_ld 2 1, sw_gf 8 1, sw_ic 5 2 [true, true, true], sw_inc 2 (-1), sw_goto 1 [true, true, true]] l st P := rfl
theorem at_X8_put_2 : sw_at cf b_X8_put 2 l st P = sw_ex cf b_X8_put [sw_ld 2 0, sw_gf 7 3, sw_ld 0 2, sw_ld 2 1, sw_cv 24 m_J2_add_3 2, sw_ret] l st P := rfl
theorem M_X8_give (d : Nat) (as : List Value) (P : sw_P) (h : sw_wd 6 as = true) : sw_Z (d + 1) m_X8_give as P = sw_at (sw_Z d) b_X8_give 0 (sw_en 6 as) [] P := if_pos h
theorem at_X8_give_0 : sw_at cf b_X8_give 0 l st P = sw_ex cf b_X8_give [sw_ld 2 0, sw_ld 2 1, sw_ld 2 0, sw_ld 2 1, sw_cv 7 m_X8_hint 1, sw_cv 7 m_X8_canTake 2, sw_iz 0 1 [true, true, false, false, false, false], sw_ld 2 1, sw_ld 2 0, sw_ld 2 1, sw_cv 7 m_X8_hint 1, sw_pf 8 7 0, sw_ret] l st P := rfl
theorem at_X8_give_1 : sw_at cf b_X8_give 1 l st P = sw_ex cf b_X8_give [sw_push (.int 0), sw_sti 2, sw_goto 2 [true, true, true, false, false, false]] l st P := rfl
theorem at_X8_give_2 : sw_at cf b_X8_give 2 l st P = sw_ex cf b_X8_give [sw_ld 0 2, sw_ld 2 0, sw_gf 7 2, sw_cv 2 m_X3_scratch 0, sw_ic 3 4 [true, true, false, false, false, false], sw_ld 2 0, sw_ld 2 1, sw_ld 0 2, sw_cv 7 m_X8_canTake 2, sw_iz 0 3 [true, true, true, false, false, false], sw_ld 2 1, sw_ld 0 2, sw_pf 8 7 0, sw_ret] l st P := rfl
theorem at_X8_give_3 : sw_at cf b_X8_give 3 l st P = sw_ex cf b_X8_give [sw_inc 2 1, sw_goto 2 [true, true, true, false, false, false]] l st P := rfl
theorem at_X8_give_4 : sw_at cf b_X8_give 4 l st P = sw_ex cf b_X8_give [sw_ld 2 1, sw_sta 2, sw_push (.int 0), sw_sti 3, sw_goto 5 [true, true, true, true, false, false]] l st P := rfl
theorem at_X8_give_5 : sw_at cf b_X8_give 5 l st P = sw_ex cf b_X8_give [sw_ld 0 3, sw_ld 2 0, sw_gf 7 3, sw_cv 24 m_J2_size 0, sw_ic 3 10 [false, true, true, false, false, false], sw_ld 2 0, sw_gf 7 3, sw_ld 0 3, sw_cv 24 m_J2_get 1, sw_ct [8], sw_sta 4, sw_ld 2 0, sw_ld 2 4, sw_ld 2 1, sw_gf 8 1, sw_cv 7 m_X8_isHeld 2, sw_iz 0 6 [true, true, true, true, true, false], sw_ld 2 0, sw_ld 2 1, sw_ld 2 4, sw_gf 8 7, sw_cv 7 m_X8_canHave 2, sw_iz 0 6 [true, true, true, true, true, false], sw_push (.int 1), sw_goto 7 [true, true, true, true, true, false]] l st P := rfl
theorem at_X8_give_6 : sw_at cf b_X8_give 6 l st P = sw_ex cf b_X8_give [sw_push (.int 0), sw_goto 7 [true, true, true, true, true, false]] l st P := rfl
theorem at_X8_give_7 : sw_at cf b_X8_give 7 l st P = sw_ex cf b_X8_give [sw_sti 5, sw_ld 0 5, sw_iz 0 8 [true, true, true, true, false, false], sw_ld 2 4, sw_ld 2 2, sw_cs m_X8_isLess 2, sw_iz 0 8 [true, true, true, true, false, false], sw_ld 2 4, sw_goto 9 [true, true, false, true, false, false]] l st P := rfl
theorem at_X8_give_8 : sw_at cf b_X8_give 8 l st P = sw_ex cf b_X8_give [sw_ld 2 2, sw_goto 9 [true, true, false, true, false, false]] l st P := rfl
theorem at_X8_give_9 : sw_at cf b_X8_give 9 l st P = sw_ex cf b_X8_give [sw_sta 2, sw_inc 3 1, sw_goto 5 [true, true, true, true, false, false]] l st P := rfl
theorem at_X8_give_10 : sw_at cf b_X8_give 10 l st P = sw_ex cf b_X8_give [sw_ld 2 2, sw_gf 8 7, sw_sti 3, sw_ld 2 2, sw_push (.int 1), sw_pf 8 8 1, sw_ld 2 2, sw_push (.int (-1)), sw_pf 8 7 0, sw_ld 2 1, sw_ld 2 2, sw_ld 2 1, sw_iac false 11 [false, false, false, true, false, false], sw_push (.int (-1)), sw_goto 12 [false, false, false, false, false, false]] l st P := rfl
theorem at_X8_give_11 : sw_at cf b_X8_give 11 l st P = sw_ex cf b_X8_give [sw_ld 0 3, sw_goto 12 [false, false, false, false, false, false]] l st P := rfl
theorem at_X8_give_12 : sw_at cf b_X8_give 12 l st P = sw_ex cf b_X8_give [sw_pf 8 7 0, sw_ret] l st P := rfl
theorem M_X8_hint (d : Nat) (as : List Value) (P : sw_P) (h : sw_wd 4 as = true) : sw_Z (d + 1) m_X8_hint as P = sw_at (sw_Z d) b_X8_hint 0 (sw_en 4 as) [] P := if_pos h
theorem at_X8_hint_0 : sw_at cf b_X8_hint 0 l st P = sw_ex cf b_X8_hint [sw_ld 2 1, sw_gf 8 10, sw_sta 2, sw_ld 2 2, sw_push (.int 1), sw_cv 6 m_X7_is 1, sw_iz 1 1 [true, false, true, false], sw_ld 2 0, sw_gf 7 2, sw_gf 2 4, sw_iz 0 2 [true, false, true, false], sw_ld 2 2, sw_push (.int 2), sw_cv 6 m_X7_is 1, sw_iz 1 1 [true, false, true, false], sw_ld 2 2, sw_push (.int 3), sw_cv 6 m_X7_is 1, sw_iz 1 1 [true, false, true, false], sw_ld 2 2, sw_push (.int 4), sw_cv 6 m_X7_is 1, sw_iz 0 2 [true, false, true, false], sw_goto 1 [true, false, true, false]] l st P := rfl
theorem at_X8_hint_1 : sw_at cf b_X8_hint 1 l st P = sw_ex cf b_X8_hint [sw_push (.int 1), sw_goto 3 [true, false, true, false]] l st P := rfl
theorem at_X8_hint_2 : sw_at cf b_X8_hint 2 l st P = sw_ex cf b_X8_hint [sw_push (.int 0), sw_goto 3 [true, false, true, false]] l st P := rfl
theorem at_X8_hint_3 : sw_at cf b_X8_hint 3 l st P = sw_ex cf b_X8_hint [sw_sti 3, sw_ld 0 3, sw_iz 0 4 [false, false, false, false], sw_ld 2 0, sw_ld 2 2, sw_gf 6 2, sw_push (.int 0), sw_ald 64, sw_cv 7 m_X8_of 1, sw_gf 8 7, sw_goto 5 [false, false, false, false]] l st P := rfl
theorem at_X8_hint_4 : sw_at cf b_X8_hint 4 l st P = sw_ex cf b_X8_hint [sw_push (.int (-1)), sw_goto 5 [false, false, false, false]] l st P := rfl
theorem at_X8_hint_5 : sw_at cf b_X8_hint 5 l st P = sw_ex cf b_X8_hint [sw_rv 0] l st P := rfl
theorem M_X8_of (d : Nat) (as : List Value) (P : sw_P) (h : sw_wd 2 as = true) : sw_Z (d + 1) m_X8_of as P = sw_at (sw_Z d) b_X8_of 0 (sw_en 2 as) [] P := if_pos h
theorem at_X8_of_0 : sw_at cf b_X8_of 0 l st P = sw_ex cf b_X8_of [sw_ld 2 0, sw_gf 7 3, sw_ld 2 0, sw_ld 0 1, sw_cv 7 m_X8_placeOf 1, sw_cv 24 m_J2_get 1, sw_ct [8], sw_rv 2] l st P := rfl
theorem M_X8_placeOf (d : Nat) (as : List Value) (P : sw_P) (h : sw_wd 3 as = true) : sw_Z (d + 1) m_X8_placeOf as P = sw_at (sw_Z d) b_X8_placeOf 0 (sw_en 3 as) [] P := if_pos h
theorem at_X8_placeOf_0 : sw_at cf b_X8_placeOf 0 l st P = sw_ex cf b_X8_placeOf [sw_ld 2 0, sw_gf 7 3, sw_cv 24 m_J2_size 0, sw_push (.int 1), sw_ii (fun x y => x - y), sw_sti 2, sw_goto 1 [true, true, true]] l st P := rfl
theorem at_X8_placeOf_1 : sw_at cf b_X8_placeOf 1 l st P = sw_ex cf b_X8_placeOf [sw_ld 0 2, sw_iz 2 2 [false, false, true], sw_ld 2 0, sw_gf 7 3, sw_ld 0 2, sw_cv 24 m_J2_get 1, sw_ct [8], sw_gf 8 0, sw_ld 0 1, sw_ic 0 2 [false, false, true], sw_inc 2 (-1), sw_goto 1 [true, true, true]] l st P := rfl
theorem at_X8_placeOf_2 : sw_at cf b_X8_placeOf 2 l st P = sw_ex cf b_X8_placeOf [sw_ld 0 2, sw_rv 0] l st P := rfl
theorem M_X8_canTake (d : Nat) (as : List Value) (P : sw_P) (h : sw_wd 3 as = true) : sw_Z (d + 1) m_X8_canTake as P = sw_at (sw_Z d) b_X8_canTake 0 (sw_en 3 as) [] P := if_pos h
theorem at_X8_canTake_0 : sw_at cf b_X8_canTake 0 l st P = sw_ex cf b_X8_canTake [sw_ld 0 2, sw_push (.int (-1)), sw_ic 0 1 [false, false, false], sw_ld 2 0, sw_ld 2 1, sw_ld 0 2, sw_cv 7 m_X8_canHave 2, sw_iz 0 1 [false, false, false], sw_ld 2 0, sw_ld 0 2, sw_ld 2 1, sw_gf 8 1, sw_cv 7 m_X8_isFree 2, sw_iz 0 1 [false, false, false], sw_push (.int 1), sw_goto 2 [false, false, false]] l st P := rfl
theorem at_X8_canTake_1 : sw_at cf b_X8_canTake 1 l st P = sw_ex cf b_X8_canTake [sw_push (.int 0), sw_goto 2 [false, false, false]] l st P := rfl
theorem at_X8_canTake_2 : sw_at cf b_X8_canTake 2 l st P = sw_ex cf b_X8_canTake [sw_rv 1] l st P := rfl
theorem M_X8_canHave (d : Nat) (as : List Value) (P : sw_P) (h : sw_wd 3 as = true) : sw_Z (d + 1) m_X8_canHave as P = sw_at (sw_Z d) b_X8_canHave 0 (sw_en 3 as) [] P := if_pos h
theorem at_X8_canHave_0 : sw_at cf b_X8_canHave 0 l st P = sw_ex cf b_X8_canHave [sw_ld 2 1, sw_gf 8 6, sw_iz 0 1 [false, false, false], sw_ld 2 0, sw_gf 7 2, sw_ld 0 2, sw_cv 2 m_X3_isKept 1, sw_iz 0 2 [false, false, false], sw_goto 1 [false, false, false]] l st P := rfl
theorem at_X8_canHave_1 : sw_at cf b_X8_canHave 1 l st P = sw_ex cf b_X8_canHave [sw_push (.int 1), sw_goto 3 [false, false, false]] l st P := rfl
theorem at_X8_canHave_2 : sw_at cf b_X8_canHave 2 l st P = sw_ex cf b_X8_canHave [sw_push (.int 0), sw_goto 3 [false, false, false]] l st P := rfl
theorem at_X8_canHave_3 : sw_at cf b_X8_canHave 3 l st P = sw_ex cf b_X8_canHave [sw_rv 1] l st P := rfl
theorem M_X8_isFree (d : Nat) (as : List Value) (P : sw_P) (h : sw_wd 4 as = true) : sw_Z (d + 1) m_X8_isFree as P = sw_at (sw_Z d) b_X8_isFree 0 (sw_en 4 as) [] P := if_pos h
theorem at_X8_isFree_0 : sw_at cf b_X8_isFree 0 l st P = sw_ex cf b_X8_isFree [sw_push (.int 0), sw_sti 3, sw_goto 1 [true, true, true, true]] l st P := rfl
theorem at_X8_isFree_1 : sw_at cf b_X8_isFree 1 l st P = sw_ex cf b_X8_isFree [sw_ld 0 3, sw_ld 2 0, sw_gf 7 3, sw_cv 24 m_J2_size 0, sw_ic 3 3 [false, false, false, false], sw_ld 2 0, sw_gf 7 3, sw_ld 0 3, sw_cv 24 m_J2_get 1, sw_ct [8], sw_gf 8 7, sw_ld 0 1, sw_ic 1 2 [true, true, true, true], sw_ld 2 0, sw_ld 2 0, sw_gf 7 3, sw_ld 0 3, sw_cv 24 m_J2_get 1, sw_ct [8], sw_ld 0 2, sw_cv 7 m_X8_isHeld 2, sw_iz 0 2 [true, true, true, true], sw_push (.int 0), sw_rv 1] l st P := rfl
theorem at_X8_isFree_2 : sw_at cf b_X8_isFree 2 l st P = sw_ex cf b_X8_isFree [sw_inc 3 1, sw_goto 1 [true, true, true, true]] l st P := rfl
theorem at_X8_isFree_3 : sw_at cf b_X8_isFree 3 l st P = sw_ex cf b_X8_isFree [sw_push (.int 1), sw_rv 1] l st P := rfl
theorem M_X8_isHeld (d : Nat) (as : List Value) (P : sw_P) (h : sw_wd 3 as = true) : sw_Z (d + 1) m_X8_isHeld as P = sw_at (sw_Z d) b_X8_isHeld 0 (sw_en 3 as) [] P := if_pos h
theorem at_X8_isHeld_0 : sw_at cf b_X8_isHeld 0 l st P = sw_ex cf b_X8_isHeld [sw_ld 2 1, sw_gf 8 7, sw_push (.int (-1)), sw_ic 0 1 [false, false, false], sw_ld 2 1, sw_gf 8 2, sw_ld 0 2, sw_ic 5 1 [false, false, false], sw_push (.int 1), sw_goto 2 [false, false, false]] l st P := rfl
theorem at_X8_isHeld_1 : sw_at cf b_X8_isHeld 1 l st P = sw_ex cf b_X8_isHeld [sw_push (.int 0), sw_goto 2 [false, false, false]] l st P := rfl
theorem at_X8_isHeld_2 : sw_at cf b_X8_isHeld 2 l st P = sw_ex cf b_X8_isHeld [sw_rv 1] l st P := rfl
theorem M_X8_isLess (d : Nat) (as : List Value) (P : sw_P) (h : sw_wd 2 as = true) : sw_Z (d + 1) m_X8_isLess as P = sw_at (sw_Z d) b_X8_isLess 0 (sw_en 2 as) [] P := if_pos h
theorem at_X8_isLess_0 : sw_at cf b_X8_isLess 0 l st P = sw_ex cf b_X8_isLess [sw_ld 2 0, sw_cv 8 m_X9_weight 0, sw_ld 2 1, sw_cv 8 m_X9_weight 0, sw_ic 2 1 [false, false], sw_ld 2 0, sw_cv 8 m_X9_weight 0, sw_ld 2 1, sw_cv 8 m_X9_weight 0, sw_ic 1 2 [false, false], sw_ld 2 0, sw_gf 8 0, sw_ld 2 1, sw_gf 8 0, sw_ic 5 2 [false, false], sw_goto 1 [false, false]] l st P := rfl
theorem at_X8_isLess_1 : sw_at cf b_X8_isLess 1 l st P = sw_ex cf b_X8_isLess [sw_push (.int 1), sw_goto 3 [false, false]] l st P := rfl
theorem at_X8_isLess_2 : sw_at cf b_X8_isLess 2 l st P = sw_ex cf b_X8_isLess [sw_push (.int 0), sw_goto 3 [false, false]] l st P := rfl
theorem at_X8_isLess_3 : sw_at cf b_X8_isLess 3 l st P = sw_ex cf b_X8_isLess [sw_rv 1] l st P := rfl
theorem M_X8_giveSlots (d : Nat) (as : List Value) (P : sw_P) (h : sw_wd 3 as = true) : sw_Z (d + 1) m_X8_giveSlots as P = sw_at (sw_Z d) b_X8_giveSlots 0 (sw_en 3 as) [] P := if_pos h
theorem at_X8_giveSlots_0 : sw_at cf b_X8_giveSlots 0 l st P = sw_ex cf b_X8_giveSlots [sw_push (.int 0), sw_sti 1, sw_goto 1 [true, true, false]] l st P := rfl
theorem at_X8_giveSlots_1 : sw_at cf b_X8_giveSlots 1 l st P = sw_ex cf b_X8_giveSlots [sw_ld 0 1, sw_ld 2 0, sw_gf 7 3, sw_cv 24 m_J2_size 0, sw_ic 3 3 [false, false, false], sw_ld 2 0, sw_gf 7 3, sw_ld 0 1, sw_cv 24 m_J2_get 1, sw_ct [8], sw_sta 2, sw_ld 2 2, sw_gf 8 8, sw_iz 0 2 [true, true, false], sw_ld 2 2, sw_cv 8 m_X9_isRemade 0, sw_iz 1 2 [true, true, false], sw_ld 2 2, sw_ld 2 0, sw_ld 0 1, sw_cv 7 m_X8_freeSlot 1, sw_pf 8 9 0, sw_goto 2 [true, true, false]] l st P := rfl
theorem at_X8_giveSlots_2 : sw_at cf b_X8_giveSlots 2 l st P = sw_ex cf b_X8_giveSlots [sw_inc 1 1, sw_goto 1 [true, true, false]] l st P := rfl
theorem at_X8_giveSlots_3 : sw_at cf b_X8_giveSlots 3 l st P = sw_ex cf b_X8_giveSlots [sw_ret] l st P := rfl
theorem M_X8_freeSlot (d : Nat) (as : List Value) (P : sw_P) (h : sw_wd 5 as = true) : sw_Z (d + 1) m_X8_freeSlot as P = sw_at (sw_Z d) b_X8_freeSlot 0 (sw_en 5 as) [] P := if_pos h
theorem at_X8_freeSlot_0 : sw_at cf b_X8_freeSlot 0 l st P = sw_ex cf b_X8_freeSlot [sw_push (.int 0), sw_sti 2, sw_push (.int 0), sw_sti 3, sw_goto 1 [true, true, true, true, false]] l st P := rfl
theorem at_X8_freeSlot_1 : sw_at cf b_X8_freeSlot 1 l st P = sw_ex cf b_X8_freeSlot [sw_ld 0 3, sw_ld 0 1, sw_ic 3 8 [false, false, true, false, false], sw_ld 2 0, sw_gf 7 3, sw_ld 0 3, sw_cv 24 m_J2_get 1, sw_ct [8], sw_gf 8 9, sw_ld 0 2, sw_ic 1 2 [true, true, true, true, false], sw_ld 2 0, sw_gf 7 3, sw_ld 0 3, sw_cv 24 m_J2_get 1, sw_ct [8], sw_ld 2 0, sw_gf 7 3, sw_ld 0 1, sw_cv 24 m_J2_get 1, sw_ct [8], sw_cv 8 m_X9_meets 1, sw_iz 0 2 [true, true, true, true, false], sw_push (.int 1), sw_goto 3 [true, true, true, true, false]] l st P := rfl
theorem at_X8_freeSlot_2 : sw_at cf b_X8_freeSlot 2 l st P = sw_ex cf b_X8_freeSlot [sw_push (.int 0), sw_goto 3 [true, true, true, true, false]] l st P := rfl
theorem at_X8_freeSlot_3 : sw_at cf b_X8_freeSlot 3 l st P = sw_ex cf b_X8_freeSlot [sw_sti 4, sw_ld 0 2, sw_ld 0 4, sw_iz 0 4 [true, true, false, true, true], sw_push (.int 1), sw_goto 5 [true, true, false, true, true]] l st P := rfl
theorem at_X8_freeSlot_4 : sw_at cf b_X8_freeSlot 4 l st P = sw_ex cf b_X8_freeSlot [sw_push (.int 0), sw_goto 5 [true, true, false, true, true]] l st P := rfl
theorem at_X8_freeSlot_5 : sw_at cf b_X8_freeSlot 5 l st P = sw_ex cf b_X8_freeSlot [sw_ii (fun x y => x + y), sw_sti 2, sw_ld 0 4, sw_iz 0 6 [true, true, true, true, false], sw_push (.int 0), sw_goto 7 [true, true, true, false, false]] l st P := rfl
theorem at_X8_freeSlot_6 : sw_at cf b_X8_freeSlot 6 l st P = sw_ex cf b_X8_freeSlot [sw_ld 0 3, sw_push (.int 1), sw_ii (fun x y => x + y), sw_goto 7 [true, true, true, false, false]] l st P := rfl
theorem at_X8_freeSlot_7 : sw_at cf b_X8_freeSlot 7 l st P = sw_ex cf b_X8_freeSlot [sw_sti 3, sw_goto 1 [true, true, true, true, false]] l st P := rfl
theorem at_X8_freeSlot_8 : sw_at cf b_X8_freeSlot 8 l st P = sw_ex cf b_X8_freeSlot [sw_ld 0 2, sw_rv 0] l st P := rfl
theorem M_X8_slots (d : Nat) (as : List Value) (P : sw_P) (h : sw_wd 3 as = true) : sw_Z (d + 1) m_X8_slots as P = sw_at (sw_Z d) b_X8_slots 0 (sw_en 3 as) [] P := if_pos h
theorem at_X8_slots_0 : sw_at cf b_X8_slots 0 l st P = sw_ex cf b_X8_slots [sw_push (.int 0), sw_sti 1, sw_push (.int 0), sw_sti 2, sw_goto 1 [true, true, true]] l st P := rfl
theorem at_X8_slots_1 : sw_at cf b_X8_slots 1 l st P = sw_ex cf b_X8_slots [sw_ld 0 2, sw_ld 2 0, sw_gf 7 3, sw_cv 24 m_J2_size 0, sw_ic 3 2 [false, true, false], sw_ld 0 1, sw_ld 2 0, sw_gf 7 3, sw_ld 0 2, sw_cv 24 m_J2_get 1, sw_ct [8], sw_gf 8 9, sw_push (.int 1), sw_ii (fun x y => x + y), sw_mm sw_max, sw_sti 1, sw_inc 2 1, sw_goto 1 [true, true, true]] l st P := rfl
theorem at_X8_slots_2 : sw_at cf b_X8_slots 2 l st P = sw_ex cf b_X8_slots [sw_ld 0 1, sw_rv 0] l st P := rfl
theorem M_X8_spilled (d : Nat) (as : List Value) (P : sw_P) (h : sw_wd 4 as = true) : sw_Z (d + 1) m_X8_spilled as P = sw_at (sw_Z d) b_X8_spilled 0 (sw_en 4 as) [] P := if_pos h
theorem at_X8_spilled_0 : sw_at cf b_X8_spilled 0 l st P = sw_ex cf b_X8_spilled [sw_push (.int 0), sw_sti 2, sw_push (.int 0), sw_sti 3, sw_goto 1 [true, true, true, true]] l st P := rfl
theorem at_X8_spilled_1 : sw_at cf b_X8_spilled 1 l st P = sw_ex cf b_X8_spilled [sw_ld 0 3, sw_ld 2 0, sw_gf 7 3, sw_cv 24 m_J2_size 0, sw_ic 3 5 [false, false, true, false], sw_ld 0 2, sw_ld 2 0, sw_gf 7 3, sw_ld 0 3, sw_cv 24 m_J2_get 1, sw_ct [8], sw_gf 8 8, sw_iz 0 3 [true, true, false, true], sw_ld 0 1, sw_iz 0 2 [true, true, false, true], sw_ld 2 0, sw_gf 7 3, sw_ld 0 3, sw_cv 24 m_J2_get 1, sw_ct [8], sw_cv 8 m_X9_isRemade 0, sw_iz 0 3 [true, true, false, true], sw_goto 2 [true, true, false, true]] l st P := rfl
theorem at_X8_spilled_2 : sw_at cf b_X8_spilled 2 l st P = sw_ex cf b_X8_spilled [sw_push (.int 1), sw_goto 4 [true, true, false, true]] l st P := rfl
theorem at_X8_spilled_3 : sw_at cf b_X8_spilled 3 l st P = sw_ex cf b_X8_spilled [sw_push (.int 0), sw_goto 4 [true, true, false, true]] l st P := rfl
theorem at_X8_spilled_4 : sw_at cf b_X8_spilled 4 l st P = sw_ex cf b_X8_spilled [sw_ii (fun x y => x + y), sw_sti 2, sw_inc 3 1, sw_goto 1 [true, true, true, true]] l st P := rfl
theorem at_X8_spilled_5 : sw_at cf b_X8_spilled 5 l st P = sw_ex cf b_X8_spilled [sw_ld 0 2, sw_rv 0] l st P := rfl
theorem M_X8_frame (d : Nat) (as : List Value) (P : sw_P) (h : sw_wd 4 as = true) : sw_Z (d + 1) m_X8_frame as P = sw_at (sw_Z d) b_X8_frame 0 (sw_en 4 as) [] P := if_pos h
theorem at_X8_frame_0 : sw_at cf b_X8_frame 0 l st P = sw_ex cf b_X8_frame [sw_push (.int 0), sw_sti 1, sw_push (.int 0), sw_sti 2, sw_goto 1 [true, true, true, false]] l st P := rfl
theorem at_X8_frame_1 : sw_at cf b_X8_frame 1 l st P = sw_ex cf b_X8_frame [sw_ld 0 2, sw_ld 2 0, sw_gf 7 3, sw_cv 24 m_J2_size 0, sw_ic 3 4 [true, true, false, false], sw_ld 2 0, sw_gf 7 3, sw_ld 0 2, sw_cv 24 m_J2_get 1, sw_ct [8], sw_gf 8 7, sw_sti 3, sw_ld 0 1, sw_ld 0 3, sw_push (.int (-1)), sw_ic 0 2 [true, false, true, false], sw_ld 2 0, sw_gf 7 2, sw_ld 0 3, sw_cv 2 m_X3_isKept 1, sw_iz 0 2 [true, false, true, false], sw_push (.int 1), sw_ld 0 3, sw_ii (fun x y => x <<< (y &&& 31)), sw_goto 3 [true, false, true, false]] l st P := rfl
theorem at_X8_frame_2 : sw_at cf b_X8_frame 2 l st P = sw_ex cf b_X8_frame [sw_push (.int 0), sw_goto 3 [true, false, true, false]] l st P := rfl
theorem at_X8_frame_3 : sw_at cf b_X8_frame 3 l st P = sw_ex cf b_X8_frame [sw_ii (fun x y => x ||| y), sw_sti 1, sw_inc 2 1, sw_goto 1 [true, true, true, false]] l st P := rfl
theorem at_X8_frame_4 : sw_at cf b_X8_frame 4 l st P = sw_ex cf b_X8_frame [sw_ld 2 0, sw_cv 7 m_X8_slots 0, sw_ld 0 1, sw_cs m_X1_count 1, sw_ii (fun x y => x + y), sw_push (.int 1), sw_ii (fun x y => x + y), sw_push (.int 2), sw_dvi (fun x y => x / y), sw_push (.int 2), sw_ii (fun x y => x * y), sw_rv 0] l st P := rfl
theorem M_X8_most (d : Nat) (as : List Value) (P : sw_P) (h : sw_wd 5 as = true) : sw_Z (d + 1) m_X8_most as P = sw_at (sw_Z d) b_X8_most 0 (sw_en 5 as) [] P := if_pos h
theorem at_X8_most_0 : sw_at cf b_X8_most 0 l st P = sw_ex cf b_X8_most [sw_push (.int 0), sw_sti 1, sw_push (.int 0), sw_sti 2, sw_goto 1 [true, true, true, false, false]] l st P := rfl
theorem at_X8_most_1 : sw_at cf b_X8_most 1 l st P = sw_ex cf b_X8_most [sw_ld 0 2, sw_ld 2 0, sw_gf 7 0, sw_cv 24 m_J2_size 0, sw_ic 4 6 [false, true, false, false, false], sw_push (.int 0), sw_sti 3, sw_push (.int 0), sw_sti 4, sw_goto 2 [true, true, true, true, true]] l st P := rfl
theorem at_X8_most_2 : sw_at cf b_X8_most 2 l st P = sw_ex cf b_X8_most [sw_ld 0 4, sw_ld 2 0, sw_gf 7 3, sw_cv 24 m_J2_size 0, sw_ic 3 5 [true, true, true, true, false], sw_ld 0 3, sw_ld 2 0, sw_gf 7 3, sw_ld 0 4, sw_cv 24 m_J2_get 1, sw_ct [8], sw_gf 8 1, sw_ld 0 2, sw_ic 4 3 [true, true, true, false, true], sw_ld 0 2, sw_ld 2 0, sw_gf 7 3, sw_ld 0 4, sw_cv 24 m_J2_get 1, sw_ct [8], sw_gf 8 2, sw_ic 4 3 [true, true, true, false, true], sw_push (.int 1), sw_goto 4 [true, true, true, false, true]] l st P := rfl
theorem at_X8_most_3 : sw_at cf b_X8_most 3 l st P = sw_ex cf b_X8_most [sw_push (.int 0), sw_goto 4 [true, true, true, false, true]] l st P := rfl
theorem at_X8_most_4 : sw_at cf b_X8_most 4 l st P = sw_ex cf b_X8_most [sw_ii (fun x y => x + y), sw_sti 3, sw_inc 4 1, sw_goto 2 [true, true, true, true, true]] l st P := rfl
theorem at_X8_most_5 : sw_at cf b_X8_most 5 l st P = sw_ex cf b_X8_most [sw_ld 0 1, sw_ld 0 3, sw_mm sw_max, sw_sti 1, sw_inc 2 1, sw_goto 1 [true, true, true, false, false]] l st P := rfl
theorem at_X8_most_6 : sw_at cf b_X8_most 6 l st P = sw_ex cf b_X8_most [sw_ld 0 1, sw_rv 0] l st P := rfl
theorem M_X9_init (d : Nat) (as : List Value) (P : sw_P) (h : sw_wd 2 as = true) : sw_Z (d + 1) m_X9_init as P = sw_at (sw_Z d) b_X9_init 0 (sw_en 2 as) [] P := if_pos h
theorem at_X9_init_0 : sw_at cf b_X9_init 0 l st P = sw_ex cf b_X9_init [sw_ld 2 0, sw_oin, sw_ld 2 0, sw_push (.int (-1)), sw_pf 8 1 0, sw_ld 2 0, sw_push (.int (-1)), sw_pf 8 7 0, sw_ld 2 0, sw_push (.int (-1)), sw_pf 8 9 0, sw_ld 2 0, sw_ld 0 1, sw_pf 8 0 0, sw_ret] l st P := rfl
theorem M_X9_touch (d : Nat) (as : List Value) (P : sw_P) (h : sw_wd 4 as = true) : sw_Z (d + 1) m_X9_touch as P = sw_at (sw_Z d) b_X9_touch 0 (sw_en 4 as) [] P := if_pos h
theorem at_X9_touch_0 : sw_at cf b_X9_touch 0 l st P = sw_ex cf b_X9_touch [sw_ld 2 0, sw_gf 8 1, sw_push (.int (-1)), sw_ic 1 1 [true, true, true, true], sw_ld 2 0, sw_ld 0 1, sw_pf 8 1 0, sw_ld 2 0, sw_ld 2 2, sw_pf 8 10 2, sw_goto 1 [true, true, true, true]] l st P := rfl
theorem at_X9_touch_1 : sw_at cf b_X9_touch 1 l st P = sw_ex cf b_X9_touch [sw_ld 2 0, sw_ld 0 1, sw_pf 8 2 0, sw_ld 2 0, sw_dup, sw_gf 8 3, sw_ld 2 2, sw_gf 6 1, sw_ld 2 0, sw_gf 8 0, sw_ic 1 2 [true, false, true, true], sw_push (.int 1), sw_goto 3 [true, false, true, true]] l st P := rfl
theorem at_X9_touch_2 : sw_at cf b_X9_touch 2 l st P = sw_ex cf b_X9_touch [sw_push (.int 0), sw_goto 3 [true, false, true, true]] l st P := rfl
theorem at_X9_touch_3 : sw_at cf b_X9_touch 3 l st P = sw_ex cf b_X9_touch [sw_ii (fun x y => x + y), sw_pf 8 3 0, sw_ld 2 0, sw_dup, sw_gf 8 4, sw_ld 2 2, sw_ld 2 0, sw_gf 8 0, sw_cv 6 m_X7_reads 1, sw_ii (fun x y => x + y), sw_pf 8 4 0, sw_ld 2 0, sw_dup, sw_gf 8 5, sw_ld 0 3, sw_ld 2 2, sw_gf 6 1, sw_ld 2 0, sw_gf 8 0, sw_ic 1 4 [true, false, true, false], sw_push (.int 1), sw_goto 5 [true, false, true, false]] l st P := rfl
theorem at_X9_touch_4 : sw_at cf b_X9_touch 4 l st P = sw_ex cf b_X9_touch [sw_push (.int 0), sw_goto 5 [true, false, true, false]] l st P := rfl
theorem at_X9_touch_5 : sw_at cf b_X9_touch 5 l st P = sw_ex cf b_X9_touch [sw_ld 2 2, sw_ld 2 0, sw_gf 8 0, sw_cv 6 m_X7_reads 1, sw_ii (fun x y => x + y), sw_ii (fun x y => x * y), sw_ii (fun x y => x + y), sw_pf 8 5 0, sw_ret] l st P := rfl
theorem M_X9_crosses (d : Nat) (as : List Value) (P : sw_P) (h : sw_wd 2 as = true) : sw_Z (d + 1) m_X9_crosses as P = sw_at (sw_Z d) b_X9_crosses 0 (sw_en 2 as) [] P := if_pos h
theorem at_X9_crosses_0 : sw_at cf b_X9_crosses 0 l st P = sw_ex cf b_X9_crosses [sw_ld 2 0, sw_gf 8 1, sw_ld 0 1, sw_ic 3 1 [false, false], sw_ld 0 1, sw_ld 2 0, sw_gf 8 2, sw_ic 3 1 [false, false], sw_push (.int 1), sw_goto 2 [false, false]] l st P := rfl
theorem at_X9_crosses_1 : sw_at cf b_X9_crosses 1 l st P = sw_ex cf b_X9_crosses [sw_push (.int 0), sw_goto 2 [false, false]] l st P := rfl
theorem at_X9_crosses_2 : sw_at cf b_X9_crosses 2 l st P = sw_ex cf b_X9_crosses [sw_rv 1] l st P := rfl
theorem M_X9_weight (d : Nat) (as : List Value) (P : sw_P) (h : sw_wd 1 as = true) : sw_Z (d + 1) m_X9_weight as P = sw_at (sw_Z d) b_X9_weight 0 (sw_en 1 as) [] P := if_pos h
theorem at_X9_weight_0 : sw_at cf b_X9_weight 0 l st P = sw_ex cf b_X9_weight [sw_push (.int 100), sw_ld 2 0, sw_gf 8 5, sw_ii (fun x y => x * y), sw_ld 2 0, sw_gf 8 2, sw_ld 2 0, sw_gf 8 1, sw_ii (fun x y => x - y), sw_push (.int 1), sw_ii (fun x y => x + y), sw_dvi (fun x y => x / y), sw_rv 0] l st P := rfl
theorem M_X9_isRemade (d : Nat) (as : List Value) (P : sw_P) (h : sw_wd 1 as = true) : sw_Z (d + 1) m_X9_isRemade as P = sw_at (sw_Z d) b_X9_isRemade 0 (sw_en 1 as) [] P := if_pos h
theorem at_X9_isRemade_0 : sw_at cf b_X9_isRemade 0 l st P = sw_ex cf b_X9_isRemade [sw_ld 2 0, sw_gf 8 8, sw_iz 0 1 [false], sw_ld 2 0, sw_gf 8 3, sw_push (.int 1), sw_ic 1 1 [false], sw_ld 2 0, sw_gf 8 10, sw_push (.int 0), sw_cv 6 m_X7_is 1, sw_iz 0 1 [false], sw_push (.int 1), sw_goto 2 [false]] l st P := rfl
theorem at_X9_isRemade_1 : sw_at cf b_X9_isRemade 1 l st P = sw_ex cf b_X9_isRemade [sw_push (.int 0), sw_goto 2 [false]] l st P := rfl
theorem at_X9_isRemade_2 : sw_at cf b_X9_isRemade 2 l st P = sw_ex cf b_X9_isRemade [sw_rv 1] l st P := rfl
theorem M_X9_meets (d : Nat) (as : List Value) (P : sw_P) (h : sw_wd 2 as = true) : sw_Z (d + 1) m_X9_meets as P = sw_at (sw_Z d) b_X9_meets 0 (sw_en 2 as) [] P := if_pos h
theorem at_X9_meets_0 : sw_at cf b_X9_meets 0 l st P = sw_ex cf b_X9_meets [sw_ld 2 0, sw_gf 8 1, sw_ld 2 1, sw_gf 8 2, sw_ic 4 1 [false, false], sw_ld 2 1, sw_gf 8 1, sw_ld 2 0, sw_gf 8 2, sw_ic 4 1 [false, false], sw_push (.int 1), sw_goto 2 [false, false]] l st P := rfl
theorem at_X9_meets_1 : sw_at cf b_X9_meets 1 l st P = sw_ex cf b_X9_meets [sw_push (.int 0), sw_goto 2 [false, false]] l st P := rfl
theorem at_X9_meets_2 : sw_at cf b_X9_meets 2 l st P = sw_ex cf b_X9_meets [sw_rv 1] l st P := rfl
end SWC
