/-! THE TABLES OF CODE: by gen/tables.py out of the names files and the words. -/
set_option maxRecDepth 100000
def b_J0_init_0 : List (ev_I × List (Nat × Nat)) := [((.aload_n 0, 1, []), []), ((.invokespecial 1, 3, [0, 1]), []), ((.return_, 1, []), [])]
def tb_J0_init : List (Nat × List (ev_I × List (Nat × Nat))) := [(0, b_J0_init_0)]
def b_J1_init_0 : List (ev_I × List (Nat × Nat)) := [((.aload_n 0, 1, []), []), ((.invokespecial 43, 3, [1, 1]), []), ((.aload_n 0, 1, []), []), ((.ldc 92, 2, [1, 1061158912]), []), ((.putfield 81, 3, [0, 2, 7, 11, 12]), []), ((.return_, 1, []), [])]
def tb_J1_init : List (Nat × List (ev_I × List (Nat × Nat))) := [(0, b_J1_init_0)]
def b_X1_init_0 : List (ev_I × List (Nat × Nat)) := [((.aload_n 0, 1, []), []), ((.invokespecial 3, 3, [0, 1]), []), ((.aload_n 0, 1, []), []), ((.iload_n 1, 1, []), []), ((.putfield 9, 3, [0, 0, 0, 3]), []), ((.aload_n 0, 1, []), []), ((.iload_n 2, 1, []), []), ((.putfield 15, 3, [0, 0, 1, 3]), []), ((.aload_n 0, 1, []), []), ((.aload_n 3, 1, []), []), ((.putfield 18, 3, [0, 4, 2, 3]), []), ((.aload_n 0, 1, []), []), ((.aload 4, 2, []), []), ((.putfield 22, 3, [0, 4, 3, 3]), []), ((.aload_n 0, 1, []), []), ((.aload 5, 2, []), []), ((.putfield 26, 3, [0, 4, 4, 3]), []), ((.return_, 1, []), [])]
def tb_X1_init : List (Nat × List (ev_I × List (Nat × Nat))) := [(0, b_X1_init_0)]
def b_J2_isLatin1_0 : List (ev_I × List (Nat × Nat)) := [((.getstatic 38, 3, [0, 0, 1]), []), ((.ifCond .eq 14, 3, [16401]), []), ((.aload_n 0, 1, []), []), ((.getfield 15, 3, [0, 6, 1, 15, 16]), []), ((.ifCond .ne 7, 3, [16401]), []), ((.iconst 1, 1, []), []), ((.goto 4, 3, [16402]), [])]
def b_J2_isLatin1_17 : List (ev_I × List (Nat × Nat)) := [((.nop, 0, [1, 0]), []), ((.iconst 0, 1, []), []), ((.nop, 0, [0, 16402]), [])]
def b_J2_isLatin1_18 : List (ev_I × List (Nat × Nat)) := [((.nop, 0, [1, 0]), []), ((.ireturn, 1, [5]), [])]
def tb_J2_isLatin1 : List (Nat × List (ev_I × List (Nat × Nat))) := [(0, b_J2_isLatin1_0), (17, b_J2_isLatin1_17), (18, b_J2_isLatin1_18)]
def b_J4_signedHashCode_0 : List (ev_I × List (Nat × Nat)) := [((.iload_n 2, 1, []), []), ((.iload_n 3, 1, []), []), ((.iadd, 1, []), []), ((.istore 4, 2, []), []), ((.iload_n 2, 1, []), []), ((.istore 5, 2, []), []), ((.nop, 0, [0, 20488]), [])]
def b_J4_signedHashCode_8 : List (ev_I × List (Nat × Nat)) := [((.nop, 0, [1, 2, 3]), []), ((.iload 5, 2, []), []), ((.iload 4, 2, []), []), ((.if_icmp .ge 23, 3, [20515]), []), ((.bipush 31, 2, []), []), ((.iload_n 0, 1, []), []), ((.imul, 1, []), []), ((.aload_n 1, 1, []), []), ((.iload 5, 2, []), []), ((.baload, 1, []), []), ((.sipush 255, 3, []), []), ((.iand, 1, []), []), ((.iadd, 1, []), []), ((.istore_n 0, 1, []), []), ((.iinc 5 1, 3, []), []), ((.goto (-24), 3, [20488]), [])]
def b_J4_signedHashCode_35 : List (ev_I × List (Nat × Nat)) := [((.iload_n 0, 1, []), []), ((.ireturn, 1, []), [])]
def tb_J4_signedHashCode : List (Nat × List (ev_I × List (Nat × Nat))) := [(0, b_J4_signedHashCode_0), (8, b_J4_signedHashCode_8), (35, b_J4_signedHashCode_35)]
def b_J4_utf16hashCode_0 : List (ev_I × List (Nat × Nat)) := [((.iload_n 2, 1, []), []), ((.iload_n 3, 1, []), []), ((.iadd, 1, []), []), ((.istore 4, 2, []), []), ((.iload_n 2, 1, []), []), ((.istore 5, 2, []), []), ((.nop, 0, [0, 24584]), [])]
def b_J4_utf16hashCode_8 : List (ev_I × List (Nat × Nat)) := [((.nop, 0, [1, 2, 3]), []), ((.iload 5, 2, []), []), ((.iload 4, 2, []), []), ((.if_icmp .ge 26, 3, [24614]), []), ((.bipush 31, 2, []), []), ((.iload_n 0, 1, []), []), ((.imul, 1, []), []), ((.getstatic 106, 3, []), []), ((.aload_n 1, 1, []), []), ((.iload 5, 2, []), []), ((.invokeinterface 110 3, 5, []), []), ((.iadd, 1, []), []), ((.istore_n 0, 1, []), []), ((.iinc 5 1, 3, []), []), ((.goto (-27), 3, [24584]), [])]
def b_J4_utf16hashCode_38 : List (ev_I × List (Nat × Nat)) := [((.iload_n 0, 1, []), []), ((.ireturn, 1, []), [])]
def tb_J4_utf16hashCode : List (Nat × List (ev_I × List (Nat × Nat))) := [(0, b_J4_utf16hashCode_0), (8, b_J4_utf16hashCode_8), (38, b_J4_utf16hashCode_38)]
def b_J4_hashCode_0 : List (ev_I × List (Nat × Nat)) := [((.iload_n 2, 1, []), []), ((.iload_n 3, 1, []), []), ((.iadd, 1, []), []), ((.istore 4, 2, []), []), ((.iload_n 2, 1, []), []), ((.istore 5, 2, []), []), ((.nop, 0, [0, 28680]), [])]
def b_J4_hashCode_8 : List (ev_I × List (Nat × Nat)) := [((.nop, 0, [1, 2, 3]), []), ((.iload 5, 2, []), []), ((.iload 4, 2, []), []), ((.if_icmp .ge 19, 3, [28703]), []), ((.bipush 31, 2, []), []), ((.iload_n 0, 1, []), []), ((.imul, 1, []), []), ((.aload_n 1, 1, []), []), ((.iload 5, 2, []), []), ((.caload, 1, []), []), ((.iadd, 1, []), []), ((.istore_n 0, 1, []), []), ((.iinc 5 1, 3, []), []), ((.goto (-20), 3, [28680]), [])]
def b_J4_hashCode_31 : List (ev_I × List (Nat × Nat)) := [((.iload_n 0, 1, []), []), ((.ireturn, 1, []), [])]
def tb_J4_hashCode : List (Nat × List (ev_I × List (Nat × Nat))) := [(0, b_J4_hashCode_0), (8, b_J4_hashCode_8), (31, b_J4_hashCode_31)]
def b_J4_hashCode_2_0 : List (ev_I × List (Nat × Nat)) := [((.iload_n 2, 1, []), []), ((.iload_n 3, 1, []), []), ((.iadd, 1, []), []), ((.istore 4, 2, []), []), ((.iload_n 2, 1, []), []), ((.istore 5, 2, []), []), ((.nop, 0, [0, 32776]), [])]
def b_J4_hashCode_2_8 : List (ev_I × List (Nat × Nat)) := [((.nop, 0, [1, 2, 3]), []), ((.iload 5, 2, []), []), ((.iload 4, 2, []), []), ((.if_icmp .ge 19, 3, [32799]), []), ((.bipush 31, 2, []), []), ((.iload_n 0, 1, []), []), ((.imul, 1, []), []), ((.aload_n 1, 1, []), []), ((.iload 5, 2, []), []), ((.baload, 1, []), []), ((.iadd, 1, []), []), ((.istore_n 0, 1, []), []), ((.iinc 5 1, 3, []), []), ((.goto (-20), 3, [32776]), [])]
def b_J4_hashCode_2_31 : List (ev_I × List (Nat × Nat)) := [((.iload_n 0, 1, []), []), ((.ireturn, 1, []), [])]
def tb_J4_hashCode_2 : List (Nat × List (ev_I × List (Nat × Nat))) := [(0, b_J4_hashCode_2_0), (8, b_J4_hashCode_2_8), (31, b_J4_hashCode_2_31)]
def b_J4_hashCode_3_0 : List (ev_I × List (Nat × Nat)) := [((.iload_n 2, 1, []), []), ((.iload_n 3, 1, []), []), ((.iadd, 1, []), []), ((.istore 4, 2, []), []), ((.iload_n 2, 1, []), []), ((.istore 5, 2, []), []), ((.nop, 0, [0, 36872]), [])]
def b_J4_hashCode_3_8 : List (ev_I × List (Nat × Nat)) := [((.nop, 0, [1, 2, 3]), []), ((.iload 5, 2, []), []), ((.iload 4, 2, []), []), ((.if_icmp .ge 19, 3, [36895]), []), ((.bipush 31, 2, []), []), ((.iload_n 0, 1, []), []), ((.imul, 1, []), []), ((.aload_n 1, 1, []), []), ((.iload 5, 2, []), []), ((.saload, 1, []), []), ((.iadd, 1, []), []), ((.istore_n 0, 1, []), []), ((.iinc 5 1, 3, []), []), ((.goto (-20), 3, [36872]), [])]
def b_J4_hashCode_3_31 : List (ev_I × List (Nat × Nat)) := [((.iload_n 0, 1, []), []), ((.ireturn, 1, []), [])]
def tb_J4_hashCode_3 : List (Nat × List (ev_I × List (Nat × Nat))) := [(0, b_J4_hashCode_3_0), (8, b_J4_hashCode_3_8), (31, b_J4_hashCode_3_31)]
def b_J4_hashCode_4_0 : List (ev_I × List (Nat × Nat)) := [((.iload_n 2, 1, []), []), ((.iload_n 3, 1, []), []), ((.iadd, 1, []), []), ((.istore 4, 2, []), []), ((.iload_n 2, 1, []), []), ((.istore 5, 2, []), []), ((.nop, 0, [0, 40968]), [])]
def b_J4_hashCode_4_8 : List (ev_I × List (Nat × Nat)) := [((.nop, 0, [1, 2, 3]), []), ((.iload 5, 2, []), []), ((.iload 4, 2, []), []), ((.if_icmp .ge 19, 3, [40991]), []), ((.bipush 31, 2, []), []), ((.iload_n 0, 1, []), []), ((.imul, 1, []), []), ((.aload_n 1, 1, []), []), ((.iload 5, 2, []), []), ((.iaload, 1, []), []), ((.iadd, 1, []), []), ((.istore_n 0, 1, []), []), ((.iinc 5 1, 3, []), []), ((.goto (-20), 3, [40968]), [])]
def b_J4_hashCode_4_31 : List (ev_I × List (Nat × Nat)) := [((.iload_n 0, 1, []), []), ((.ireturn, 1, []), [])]
def tb_J4_hashCode_4 : List (Nat × List (ev_I × List (Nat × Nat))) := [(0, b_J4_hashCode_4_0), (8, b_J4_hashCode_4_8), (31, b_J4_hashCode_4_31)]
def b_J4_vectorizedHashCode_0 : List (ev_I × List (Nat × Nat)) := [((.iload 4, 2, []), []), ((.tableswitch 127 4 10 #[42, 55, 127, 127, 88, 101, 114], 42, [45185, 45100, 45113, 45185, 45185, 45146, 45159, 45172]), [])]
def b_J4_vectorizedHashCode_44 : List (ev_I × List (Nat × Nat)) := [((.iload_n 3, 1, []), []), ((.aload_n 0, 1, []), []), ((.checkcast 60, 3, [1, 45]), []), ((.iload_n 1, 1, []), []), ((.iload_n 2, 1, []), []), ((.invokestatic 62, 3, [5, 4]), []), ((.goto 103, 3, [45213]), [])]
def b_J4_vectorizedHashCode_57 : List (ev_I × List (Nat × Nat)) := [((.aload_n 0, 1, []), []), ((.instanceof 60, 3, [1, 45]), []), ((.ifCond .eq 16, 3, [45133]), []), ((.iload_n 3, 1, []), []), ((.aload_n 0, 1, []), []), ((.checkcast 60, 3, [1, 45]), []), ((.iload_n 1, 1, []), []), ((.iload_n 2, 1, []), []), ((.invokestatic 66, 3, [6, 4]), []), ((.goto 83, 3, [45213]), [])]
def b_J4_vectorizedHashCode_77 : List (ev_I × List (Nat × Nat)) := [((.iload_n 3, 1, []), []), ((.aload_n 0, 1, []), []), ((.checkcast 69, 3, [0]), []), ((.iload_n 1, 1, []), []), ((.iload_n 2, 1, []), []), ((.invokestatic 71, 3, [7, 4]), []), ((.goto 70, 3, [45213]), [])]
def b_J4_vectorizedHashCode_90 : List (ev_I × List (Nat × Nat)) := [((.iload_n 3, 1, []), []), ((.aload_n 0, 1, []), []), ((.checkcast 60, 3, [1, 45]), []), ((.iload_n 1, 1, []), []), ((.iload_n 2, 1, []), []), ((.invokestatic 75, 3, [8, 4]), []), ((.goto 57, 3, [45213]), [])]
def b_J4_vectorizedHashCode_103 : List (ev_I × List (Nat × Nat)) := [((.iload_n 3, 1, []), []), ((.aload_n 0, 1, []), []), ((.checkcast 77, 3, [1, 46]), []), ((.iload_n 1, 1, []), []), ((.iload_n 2, 1, []), []), ((.invokestatic 79, 3, [9, 4]), []), ((.goto 44, 3, [45213]), [])]
def b_J4_vectorizedHashCode_116 : List (ev_I × List (Nat × Nat)) := [((.iload_n 3, 1, []), []), ((.aload_n 0, 1, []), []), ((.checkcast 82, 3, [1, 40]), []), ((.iload_n 1, 1, []), []), ((.iload_n 2, 1, []), []), ((.invokestatic 84, 3, [10, 4]), []), ((.goto 31, 3, [45213]), [])]
def b_J4_vectorizedHashCode_129 : List (ev_I × List (Nat × Nat)) := [((.nop, 0, [1, 0, 1, 2, 3]), []), ((.new 87, 3, []), []), ((.dup, 1, []), []), ((.new 89, 3, []), []), ((.dup, 1, []), []), ((.invokespecial 91, 3, []), []), ((.ldc 92, 2, []), []), ((.invokevirtual 94, 3, []), []), ((.iload 4, 2, []), []), ((.invokevirtual 98, 3, []), []), ((.invokevirtual 101, 3, []), []), ((.invokespecial 105, 3, []), []), ((.athrow, 1, []), [])]
def b_J4_vectorizedHashCode_157 : List (ev_I × List (Nat × Nat)) := [((.nop, 0, [1, 0, 1, 2, 3, 4]), []), ((.ireturn, 1, []), [])]
def tb_J4_vectorizedHashCode : List (Nat × List (ev_I × List (Nat × Nat))) := [(0, b_J4_vectorizedHashCode_0), (44, b_J4_vectorizedHashCode_44), (57, b_J4_vectorizedHashCode_57), (77, b_J4_vectorizedHashCode_77), (90, b_J4_vectorizedHashCode_90), (103, b_J4_vectorizedHashCode_103), (116, b_J4_vectorizedHashCode_116), (129, b_J4_vectorizedHashCode_129), (157, b_J4_vectorizedHashCode_157)]
def b_J3_hashCode_0 : List (ev_I × List (Nat × Nat)) := [((.aload_n 0, 1, []), []), ((.arraylength, 1, []), []), ((.lookupswitch 40 #[(0, 26), (1, 30)], 26, [49194, 49180, 49184]), [])]
def b_J3_hashCode_28 : List (ev_I × List (Nat × Nat)) := [((.iconst 0, 1, []), []), ((.goto 22, 3, [49203]), [])]
def b_J3_hashCode_32 : List (ev_I × List (Nat × Nat)) := [((.aload_n 0, 1, []), []), ((.iconst 0, 1, []), []), ((.baload, 1, []), []), ((.sipush 255, 3, []), []), ((.iand, 1, []), []), ((.goto 12, 3, [49203]), [])]
def b_J3_hashCode_42 : List (ev_I × List (Nat × Nat)) := [((.aload_n 0, 1, []), []), ((.iconst 0, 1, []), []), ((.aload_n 0, 1, []), []), ((.arraylength, 1, []), []), ((.iconst 0, 1, []), []), ((.iconst 4, 1, []), []), ((.invokestatic 84, 3, [11, 5]), []), ((.nop, 0, [0, 49203]), [])]
def b_J3_hashCode_51 : List (ev_I × List (Nat × Nat)) := [((.nop, 0, [1, 0]), []), ((.ireturn, 1, []), [])]
def tb_J3_hashCode : List (Nat × List (ev_I × List (Nat × Nat))) := [(0, b_J3_hashCode_0), (28, b_J3_hashCode_28), (32, b_J3_hashCode_32), (42, b_J3_hashCode_42), (51, b_J3_hashCode_51)]
def b_J2_hashCode_0 : List (ev_I × List (Nat × Nat)) := [((.aload_n 0, 1, []), []), ((.getfield 19, 3, [0, 0, 2, 15, 16]), []), ((.istore_n 1, 1, []), []), ((.iload_n 1, 1, []), []), ((.ifCond .ne 52, 3, [53306]), []), ((.aload_n 0, 1, []), []), ((.getfield 23, 3, [0, 5, 3, 15, 16]), []), ((.ifCond .ne 45, 3, [53306]), []), ((.aload_n 0, 1, []), []), ((.invokevirtual 492, 3, [1, 15, 4, 16, 4]), []), ((.ifCond .eq 13, 3, [53281]), []), ((.aload_n 0, 1, []), []), ((.getfield 9, 3, [0, 4, 0, 15, 16]), []), ((.invokestatic 628, 3, [12, 1]), []), ((.goto 10, 3, [53288]), [])]
def b_J2_hashCode_33 : List (ev_I × List (Nat × Nat)) := [((.aload_n 0, 1, []), []), ((.getfield 9, 3, [0, 4, 0, 15, 16]), []), ((.invokestatic 632, 3, []), []), ((.nop, 0, [0, 53288]), [])]
def b_J2_hashCode_40 : List (ev_I × List (Nat × Nat)) := [((.nop, 0, [1, 1]), []), ((.istore_n 1, 1, []), []), ((.iload_n 1, 1, []), []), ((.ifCond .ne 11, 3, [53301]), []), ((.aload_n 0, 1, []), []), ((.iconst 1, 1, []), []), ((.putfield 23, 3, [0, 5, 3, 15]), []), ((.goto 8, 3, [53306]), [])]
def b_J2_hashCode_53 : List (ev_I × List (Nat × Nat)) := [((.aload_n 0, 1, []), []), ((.iload_n 1, 1, []), []), ((.putfield 19, 3, [0, 0, 2, 15]), []), ((.nop, 0, [0, 53306]), [])]
def b_J2_hashCode_58 : List (ev_I × List (Nat × Nat)) := [((.nop, 0, [1, 0]), []), ((.iload_n 1, 1, []), []), ((.ireturn, 1, []), [])]
def tb_J2_hashCode : List (Nat × List (ev_I × List (Nat × Nat))) := [(0, b_J2_hashCode_0), (33, b_J2_hashCode_33), (40, b_J2_hashCode_40), (53, b_J2_hashCode_53), (58, b_J2_hashCode_58)]
def b_X8_hashCode_0 : List (ev_I × List (Nat × Nat)) := [((.aload_n 0, 1, []), []), ((.getfield 13, 3, [0, 0, 1, 7]), []), ((.bipush 8, 2, []), []), ((.imul, 1, []), []), ((.aload_n 0, 1, []), []), ((.getfield 16, 3, [0, 0, 2, 7]), []), ((.iadd, 1, []), []), ((.bipush 9, 2, []), []), ((.ishl, 1, []), []), ((.aload_n 0, 1, []), []), ((.getfield 7, 3, [0, 0, 0, 7]), []), ((.iadd, 1, []), []), ((.sipush 256, 3, []), []), ((.iadd, 1, []), []), ((.ireturn, 1, []), [])]
def tb_X8_hashCode : List (Nat × List (ev_I × List (Nat × Nat))) := [(0, b_X8_hashCode_0)]
def b_J1_hash_0 : List (ev_I × List (Nat × Nat)) := [((.aload_n 0, 1, []), []), ((.ifnonnull 7, 3, [61448]), []), ((.iconst 0, 1, []), []), ((.goto 14, 3, [61459]), [])]
def b_J1_hash_8 : List (ev_I × List (Nat × Nat)) := [((.aload_n 0, 1, []), []), ((.invokevirtual 1, 3, [1, 15, 13, 16, 13, 7, 14]), []), ((.dup, 1, []), []), ((.istore_n 1, 1, []), []), ((.iload_n 1, 1, []), []), ((.bipush 16, 2, []), []), ((.iushr, 1, []), []), ((.ixor, 1, []), []), ((.nop, 0, [0, 61459]), [])]
def b_J1_hash_19 : List (ev_I × List (Nat × Nat)) := [((.nop, 0, [1, 0, 1]), []), ((.ireturn, 1, []), [])]
def tb_J1_hash : List (Nat × List (ev_I × List (Nat × Nat))) := [(0, b_J1_hash_0), (8, b_J1_hash_8), (19, b_J1_hash_19)]
def b_J1_resize_0 : List (ev_I × List (Nat × Nat)) := [((.aload_n 0, 1, []), []), ((.getfield 105, 3, [0, 4, 2, 11, 12]), []), ((.astore_n 1, 1, []), []), ((.aload_n 1, 1, []), []), ((.ifnonnull 7, 3, [65549]), []), ((.iconst 0, 1, []), []), ((.goto 5, 3, [65551]), [])]
def b_J1_resize_13 : List (ev_I × List (Nat × Nat)) := [((.aload_n 1, 1, []), []), ((.arraylength, 1, []), []), ((.nop, 0, [0, 65551]), [])]
def b_J1_resize_15 : List (ev_I × List (Nat × Nat)) := [((.nop, 0, [1, 2, 3, 4, 5, 6, 7, 8, 9, 10, 11, 12, 13]), []), ((.istore_n 2, 1, []), []), ((.aload_n 0, 1, []), []), ((.getfield 88, 3, [0, 0, 6, 11, 12]), []), ((.istore_n 3, 1, []), []), ((.iconst 0, 1, []), []), ((.istore 5, 2, []), []), ((.iload_n 2, 1, []), []), ((.ifCond .le 42, 3, [65603]), []), ((.iload_n 2, 1, []), []), ((.ldc 42, 2, [0, 0, 1073741824]), []), ((.if_icmp .lt 11, 3, [65578]), []), ((.aload_n 0, 1, []), []), ((.ldc 209, 2, [0, 0, 2147483647]), []), ((.putfield 88, 3, [0, 0, 6, 11, 12]), []), ((.aload_n 1, 1, []), []), ((.areturn, 1, []), [])]
def b_J1_resize_42 : List (ev_I × List (Nat × Nat)) := [((.iload_n 2, 1, []), []), ((.iconst 1, 1, []), []), ((.ishl, 1, []), []), ((.dup, 1, []), []), ((.istore 4, 2, []), []), ((.ldc 42, 2, [0, 0, 1073741824]), []), ((.if_icmp .ge 35, 3, [65621]), []), ((.iload_n 2, 1, []), []), ((.bipush 16, 2, []), []), ((.if_icmp .lt 29, 3, [65621]), []), ((.iload_n 3, 1, []), []), ((.iconst 1, 1, []), []), ((.ishl, 1, []), []), ((.istore 5, 2, []), []), ((.goto 21, 3, [65621]), [])]
def b_J1_resize_67 : List (ev_I × List (Nat × Nat)) := [((.iload_n 3, 1, []), []), ((.ifCond .le 9, 3, [65613]), []), ((.iload_n 3, 1, []), []), ((.istore 4, 2, []), []), ((.goto 11, 3, [65621]), [])]
def b_J1_resize_77 : List (ev_I × List (Nat × Nat)) := [((.bipush 16, 2, []), []), ((.istore 4, 2, []), []), ((.bipush 12, 2, []), []), ((.istore 5, 2, []), []), ((.nop, 0, [0, 65621]), [])]
def b_J1_resize_85 : List (ev_I × List (Nat × Nat)) := [((.nop, 0, [1, 3, 6, 7, 8, 9, 10, 11, 12, 13]), []), ((.iload 5, 2, []), []), ((.ifCond .ne 38, 3, [65661]), []), ((.iload 4, 2, []), []), ((.i2f, 1, []), []), ((.aload_n 0, 1, []), []), ((.getfield 81, 3, [0, 2, 7, 11, 12]), []), ((.fmul, 1, []), []), ((.fstore 6, 2, []), []), ((.iload 4, 2, []), []), ((.ldc 42, 2, [0, 0, 1073741824]), []), ((.if_icmp .ge 17, 3, [65657]), []), ((.fload 6, 2, []), []), ((.ldc 210, 2, [1, 1317011456]), []), ((.fcmp .g, 1, []), []), ((.ifCond .ge 9, 3, [65657]), []), ((.fload 6, 2, []), []), ((.f2i, 1, []), []), ((.goto 5, 3, [65659]), [])]
def b_J1_resize_121 : List (ev_I × List (Nat × Nat)) := [((.nop, 0, [1, 3, 5, 6, 7, 8, 9, 10, 11, 12, 13]), []), ((.ldc 209, 2, [0, 0, 2147483647]), []), ((.nop, 0, [0, 65659]), [])]
def b_J1_resize_123 : List (ev_I × List (Nat × Nat)) := [((.nop, 0, [1, 3, 5, 6, 7, 8, 9, 10, 11, 12, 13]), []), ((.istore 5, 2, []), []), ((.nop, 0, [0, 65661]), [])]
def b_J1_resize_125 : List (ev_I × List (Nat × Nat)) := [((.nop, 0, [1, 3, 6, 7, 8, 9, 10, 11, 12, 13]), []), ((.aload_n 0, 1, []), []), ((.iload 5, 2, []), []), ((.putfield 88, 3, [0, 0, 6, 11, 12]), []), ((.iload 4, 2, []), []), ((.anewarray 163, 3, [49]), []), ((.astore 6, 2, []), []), ((.aload_n 0, 1, []), []), ((.aload 6, 2, []), []), ((.putfield 105, 3, [0, 4, 2, 11, 12]), []), ((.aload_n 1, 1, []), []), ((.ifnull 208, 3, [65889]), []), ((.iconst 0, 1, []), []), ((.istore 7, 2, []), []), ((.nop, 0, [0, 65687]), [])]
def b_J1_resize_151 : List (ev_I × List (Nat × Nat)) := [((.nop, 0, [1, 3, 5, 8, 9, 10, 11, 12, 13]), []), ((.iload 7, 2, []), []), ((.iload_n 2, 1, []), []), ((.if_icmp .ge 199, 3, [65889]), []), ((.aload_n 1, 1, []), []), ((.iload 7, 2, []), []), ((.aaload, 1, []), []), ((.dup, 1, []), []), ((.astore 8, 2, []), []), ((.ifnull 183, 3, [65883]), []), ((.aload_n 1, 1, []), []), ((.iload 7, 2, []), []), ((.aconst_null, 1, []), []), ((.aastore, 1, []), []), ((.aload 8, 2, []), []), ((.getfield 177, 3, [0, 4, 3, 13, 14]), []), ((.ifnonnull 21, 3, [65734]), []), ((.aload 6, 2, []), []), ((.aload 8, 2, []), []), ((.getfield 168, 3, [0, 0, 0, 13, 14]), []), ((.iload 4, 2, []), []), ((.iconst 1, 1, []), []), ((.isub, 1, []), []), ((.iand, 1, []), []), ((.aload 8, 2, []), []), ((.aastore, 1, []), []), ((.goto 152, 3, [65883]), [])]
def b_J1_resize_198 : List (ev_I × List (Nat × Nat)) := [((.aload 8, 2, []), []), ((.instanceof 180, 3, [0, 13, 14]), []), ((.ifCond .eq 20, 3, [65759]), []), ((.aload 8, 2, []), []), ((.checkcast 180, 3, [0]), []), ((.aload_n 0, 1, []), []), ((.aload 6, 2, []), []), ((.iload 7, 2, []), []), ((.iload_n 2, 1, []), []), ((.invokevirtual 211, 3, []), []), ((.goto 127, 3, [65883]), [])]
def b_J1_resize_223 : List (ev_I × List (Nat × Nat)) := [((.aconst_null, 1, []), []), ((.astore 9, 2, []), []), ((.aconst_null, 1, []), []), ((.astore 10, 2, []), []), ((.aconst_null, 1, []), []), ((.astore 11, 2, []), []), ((.aconst_null, 1, []), []), ((.astore 12, 2, []), []), ((.nop, 0, [0, 65771]), [])]
def b_J1_resize_235 : List (ev_I × List (Nat × Nat)) := [((.nop, 0, [1, 3, 5, 9, 13]), []), ((.aload 8, 2, []), []), ((.getfield 177, 3, [0, 4, 3, 13, 14]), []), ((.astore 13, 2, []), []), ((.aload 8, 2, []), []), ((.getfield 168, 3, [0, 0, 0, 13, 14]), []), ((.iload_n 2, 1, []), []), ((.iand, 1, []), []), ((.ifCond .ne 29, 3, [65814]), []), ((.aload 10, 2, []), []), ((.ifnonnull 10, 3, [65800]), []), ((.aload 8, 2, []), []), ((.astore 9, 2, []), []), ((.goto 10, 3, [65807]), [])]
def b_J1_resize_264 : List (ev_I × List (Nat × Nat)) := [((.aload 10, 2, []), []), ((.aload 8, 2, []), []), ((.putfield 177, 3, [0, 4, 3, 13, 14]), []), ((.nop, 0, [0, 65807]), [])]
def b_J1_resize_271 : List (ev_I × List (Nat × Nat)) := [((.nop, 0, [1, 3, 5, 10]), []), ((.aload 8, 2, []), []), ((.astore 10, 2, []), []), ((.goto 26, 3, [65837]), [])]
def b_J1_resize_278 : List (ev_I × List (Nat × Nat)) := [((.aload 12, 2, []), []), ((.ifnonnull 10, 3, [65826]), []), ((.aload 8, 2, []), []), ((.astore 11, 2, []), []), ((.goto 10, 3, [65833]), [])]
def b_J1_resize_290 : List (ev_I × List (Nat × Nat)) := [((.aload 12, 2, []), []), ((.aload 8, 2, []), []), ((.putfield 177, 3, [0, 4, 3, 13, 14]), []), ((.nop, 0, [0, 65833]), [])]
def b_J1_resize_297 : List (ev_I × List (Nat × Nat)) := [((.nop, 0, [1, 3, 5, 12]), []), ((.aload 8, 2, []), []), ((.astore 12, 2, []), []), ((.nop, 0, [0, 65837]), [])]
def b_J1_resize_301 : List (ev_I × List (Nat × Nat)) := [((.nop, 0, [1, 3, 5, 8]), []), ((.aload 13, 2, []), []), ((.dup, 1, []), []), ((.astore 8, 2, []), []), ((.ifnonnull (-71), 3, [65771]), []), ((.aload 10, 2, []), []), ((.ifnull 16, 3, [65863]), []), ((.aload 10, 2, []), []), ((.aconst_null, 1, []), []), ((.putfield 177, 3, [0, 4, 3, 13, 14]), []), ((.aload 6, 2, []), []), ((.iload 7, 2, []), []), ((.aload 9, 2, []), []), ((.aastore, 1, []), []), ((.nop, 0, [0, 65863]), [])]
def b_J1_resize_327 : List (ev_I × List (Nat × Nat)) := [((.nop, 0, [1, 3, 5, 8, 9, 10, 13]), []), ((.aload 12, 2, []), []), ((.ifnull 18, 3, [65883]), []), ((.aload 12, 2, []), []), ((.aconst_null, 1, []), []), ((.putfield 177, 3, [0, 4, 3, 13, 14]), []), ((.aload 6, 2, []), []), ((.iload 7, 2, []), []), ((.iload_n 2, 1, []), []), ((.iadd, 1, []), []), ((.aload 11, 2, []), []), ((.aastore, 1, []), []), ((.nop, 0, [0, 65883]), [])]
def b_J1_resize_347 : List (ev_I × List (Nat × Nat)) := [((.nop, 0, [1, 3, 5, 8, 9, 10, 11, 12, 13]), []), ((.iinc 7 1, 3, []), []), ((.goto (-199), 3, [65687]), [])]
def b_J1_resize_353 : List (ev_I × List (Nat × Nat)) := [((.nop, 0, [1, 0, 1, 2, 3, 4, 5, 7, 8, 9, 10, 11, 12, 13]), []), ((.aload 6, 2, []), []), ((.areturn, 1, []), [])]
def tb_J1_resize : List (Nat × List (ev_I × List (Nat × Nat))) := [(0, b_J1_resize_0), (13, b_J1_resize_13), (15, b_J1_resize_15), (42, b_J1_resize_42), (67, b_J1_resize_67), (77, b_J1_resize_77), (85, b_J1_resize_85), (121, b_J1_resize_121), (123, b_J1_resize_123), (125, b_J1_resize_125), (151, b_J1_resize_151), (198, b_J1_resize_198), (223, b_J1_resize_223), (235, b_J1_resize_235), (264, b_J1_resize_264), (271, b_J1_resize_271), (278, b_J1_resize_278), (290, b_J1_resize_290), (297, b_J1_resize_297), (301, b_J1_resize_301), (327, b_J1_resize_327), (347, b_J1_resize_347), (353, b_J1_resize_353)]
def b_J6_init_0 : List (ev_I × List (Nat × Nat)) := [((.aload_n 0, 1, []), []), ((.invokespecial 1, 3, [0, 1]), []), ((.aload_n 0, 1, []), []), ((.iload_n 1, 1, []), []), ((.putfield 7, 3, [0, 0, 0, 13, 14]), []), ((.aload_n 0, 1, []), []), ((.aload_n 2, 1, []), []), ((.putfield 13, 3, [0, 4, 1, 13, 14]), []), ((.aload_n 0, 1, []), []), ((.aload_n 3, 1, []), []), ((.putfield 17, 3, [0, 4, 2, 13, 14]), []), ((.aload_n 0, 1, []), []), ((.aload 4, 2, []), []), ((.putfield 20, 3, [0, 4, 3, 13, 14]), []), ((.return_, 1, []), [])]
def tb_J6_init : List (Nat × List (ev_I × List (Nat × Nat))) := [(0, b_J6_init_0)]
def b_J1_newNode_0 : List (ev_I × List (Nat × Nat)) := [((.new 163, 3, [13, 4]), []), ((.dup, 1, []), []), ((.iload_n 1, 1, []), []), ((.aload_n 2, 1, []), []), ((.aload_n 3, 1, []), []), ((.aload 4, 2, []), []), ((.invokespecial 375, 3, [17, 5]), []), ((.areturn, 1, []), [])]
def tb_J1_newNode : List (Nat × List (ev_I × List (Nat × Nat))) := [(0, b_J1_newNode_0)]
def b_J7_init_0 : List (ev_I × List (Nat × Nat)) := [((.aload_n 0, 1, []), []), ((.iload_n 1, 1, []), []), ((.aload_n 2, 1, []), []), ((.aload_n 3, 1, []), []), ((.aload 4, 2, []), []), ((.invokespecial 1, 3, [17, 5]), []), ((.return_, 1, []), [])]
def tb_J7_init : List (Nat × List (ev_I × List (Nat × Nat))) := [(0, b_J7_init_0)]
def b_J34_linkNodeAtEnd_0 : List (ev_I × List (Nat × Nat)) := [((.aload_n 0, 1, []), []), ((.getfield 1, 3, [0, 0, 11, 12]), []), ((.iconst 1, 1, []), []), ((.if_icmp .ne 38, 3, [81963]), []), ((.aload_n 0, 1, []), []), ((.getfield 7, 3, [0, 4, 8, 12]), []), ((.astore_n 2, 1, []), []), ((.aload_n 0, 1, []), []), ((.aload_n 1, 1, []), []), ((.putfield 7, 3, [0, 4, 8, 12]), []), ((.aload_n 2, 1, []), []), ((.ifnonnull 11, 3, [81950]), []), ((.aload_n 0, 1, []), []), ((.aload_n 1, 1, []), []), ((.putfield 11, 3, [0, 4, 9, 12]), []), ((.goto 13, 3, [81960]), [])]
def b_J34_linkNodeAtEnd_30 : List (ev_I × List (Nat × Nat)) := [((.aload_n 1, 1, []), []), ((.aload_n 2, 1, []), []), ((.putfield 14, 3, [0, 4, 5, 14]), []), ((.aload_n 2, 1, []), []), ((.aload_n 1, 1, []), []), ((.putfield 19, 3, [0, 4, 4, 14]), []), ((.nop, 0, [0, 81960]), [])]
def b_J34_linkNodeAtEnd_40 : List (ev_I × List (Nat × Nat)) := [((.nop, 0, [1, 0, 1, 2]), []), ((.goto 35, 3, [81995]), [])]
def b_J34_linkNodeAtEnd_43 : List (ev_I × List (Nat × Nat)) := [((.aload_n 0, 1, []), []), ((.getfield 11, 3, [0, 4, 9, 12]), []), ((.astore_n 2, 1, []), []), ((.aload_n 0, 1, []), []), ((.aload_n 1, 1, []), []), ((.putfield 11, 3, [0, 4, 9, 12]), []), ((.aload_n 2, 1, []), []), ((.ifnonnull 11, 3, [81985]), []), ((.aload_n 0, 1, []), []), ((.aload_n 1, 1, []), []), ((.putfield 7, 3, [0, 4, 8, 12]), []), ((.goto 13, 3, [81995]), [])]
def b_J34_linkNodeAtEnd_65 : List (ev_I × List (Nat × Nat)) := [((.aload_n 1, 1, []), []), ((.aload_n 2, 1, []), []), ((.putfield 19, 3, [0, 4, 4, 14]), []), ((.aload_n 2, 1, []), []), ((.aload_n 1, 1, []), []), ((.putfield 14, 3, [0, 4, 5, 14]), []), ((.nop, 0, [0, 81995]), [])]
def b_J34_linkNodeAtEnd_75 : List (ev_I × List (Nat × Nat)) := [((.nop, 0, [1, 0, 1, 2]), []), ((.return_, 1, []), [])]
def tb_J34_linkNodeAtEnd : List (Nat × List (ev_I × List (Nat × Nat))) := [(0, b_J34_linkNodeAtEnd_0), (30, b_J34_linkNodeAtEnd_30), (40, b_J34_linkNodeAtEnd_40), (43, b_J34_linkNodeAtEnd_43), (65, b_J34_linkNodeAtEnd_65), (75, b_J34_linkNodeAtEnd_75)]
def b_J34_newNode_0 : List (ev_I × List (Nat × Nat)) := [((.new 15, 3, [14, 6]), []), ((.dup, 1, []), []), ((.iload_n 1, 1, []), []), ((.aload_n 2, 1, []), []), ((.aload_n 3, 1, []), []), ((.aload 4, 2, []), []), ((.invokespecial 28, 3, [19, 5]), []), ((.astore 5, 2, []), []), ((.aload_n 0, 1, []), []), ((.aload 5, 2, []), []), ((.invokevirtual 32, 3, [2, 12, 20]), []), ((.aload 5, 2, []), []), ((.areturn, 1, []), [])]
def tb_J34_newNode : List (Nat × List (ev_I × List (Nat × Nat))) := [(0, b_J34_newNode_0)]
def b_J40_equals_0 : List (ev_I × List (Nat × Nat)) := [((.aload_n 0, 1, []), []), ((.aload_n 1, 1, []), []), ((.if_acmp .ne 7, 3, [90121]), []), ((.iconst 1, 1, []), []), ((.goto 4, 3, [90122]), [])]
def b_J40_equals_9 : List (ev_I × List (Nat × Nat)) := [((.iconst 0, 1, []), []), ((.nop, 0, [0, 90122]), [])]
def b_J40_equals_10 : List (ev_I × List (Nat × Nat)) := [((.nop, 0, [1, 0, 1]), []), ((.ireturn, 1, [5]), [])]
def tb_J40_equals : List (Nat × List (ev_I × List (Nat × Nat))) := [(0, b_J40_equals_0), (9, b_J40_equals_9), (10, b_J40_equals_10)]
def b_J3_equals_0 : List (ev_I × List (Nat × Nat)) := [((.aload_n 0, 1, []), []), ((.arraylength, 1, []), []), ((.aload_n 1, 1, []), []), ((.arraylength, 1, []), []), ((.if_icmp .ne 30, 3, [94242]), []), ((.iconst 0, 1, []), []), ((.istore_n 2, 1, []), []), ((.nop, 0, [0, 94217]), [])]
def b_J3_equals_9 : List (ev_I × List (Nat × Nat)) := [((.iload_n 2, 1, []), []), ((.aload_n 0, 1, []), []), ((.arraylength, 1, []), []), ((.if_icmp .ge 20, 3, [94240]), []), ((.aload_n 0, 1, []), []), ((.iload_n 2, 1, []), []), ((.baload, 1, []), []), ((.aload_n 1, 1, []), []), ((.iload_n 2, 1, []), []), ((.baload, 1, []), []), ((.if_icmp .eq 5, 3, [94234]), []), ((.iconst 0, 1, []), []), ((.ireturn, 1, [5]), [])]
def b_J3_equals_26 : List (ev_I × List (Nat × Nat)) := [((.iinc 2 1, 3, []), []), ((.goto (-20), 3, [94217]), [])]
def b_J3_equals_32 : List (ev_I × List (Nat × Nat)) := [((.iconst 1, 1, []), []), ((.ireturn, 1, [5]), [])]
def b_J3_equals_34 : List (ev_I × List (Nat × Nat)) := [((.iconst 0, 1, []), []), ((.ireturn, 1, [5]), [])]
def tb_J3_equals : List (Nat × List (ev_I × List (Nat × Nat))) := [(0, b_J3_equals_0), (9, b_J3_equals_9), (26, b_J3_equals_26), (32, b_J3_equals_32), (34, b_J3_equals_34)]
def b_J2_equals_0 : List (ev_I × List (Nat × Nat)) := [((.aload_n 0, 1, []), []), ((.aload_n 1, 1, []), []), ((.if_acmp .ne 5, 3, [98311]), []), ((.iconst 1, 1, []), []), ((.ireturn, 1, [5]), [])]
def b_J2_equals_7 : List (ev_I × List (Nat × Nat)) := [((.aload_n 1, 1, []), []), ((.instanceof 10, 3, [2, 15, 16]), []), ((.ifCond .eq 43, 3, [98358]), []), ((.aload_n 1, 1, []), []), ((.checkcast 10, 3, [2, 15, 16]), []), ((.astore_n 2, 1, []), []), ((.getstatic 38, 3, [0, 0, 1]), []), ((.ifCond .eq 14, 3, [98340]), []), ((.aload_n 0, 1, []), []), ((.getfield 15, 3, [0, 6, 1, 15, 16]), []), ((.aload_n 2, 1, []), []), ((.getfield 15, 3, [0, 6, 1, 15, 16]), []), ((.if_icmp .ne 21, 3, [98358]), []), ((.nop, 0, [0, 98340]), [])]
def b_J2_equals_36 : List (ev_I × List (Nat × Nat)) := [((.nop, 0, [1, 1]), []), ((.aload_n 0, 1, []), []), ((.getfield 9, 3, [0, 4, 0, 15, 16]), []), ((.aload_n 2, 1, []), []), ((.getfield 9, 3, [0, 4, 0, 15, 16]), []), ((.invokestatic 541, 3, [23, 2]), []), ((.ifCond .eq 7, 3, [98358]), []), ((.iconst 1, 1, []), []), ((.goto 4, 3, [98359]), [])]
def b_J2_equals_54 : List (ev_I × List (Nat × Nat)) := [((.nop, 0, [1, 0, 1, 2]), []), ((.iconst 0, 1, []), []), ((.nop, 0, [0, 98359]), [])]
def b_J2_equals_55 : List (ev_I × List (Nat × Nat)) := [((.nop, 0, [1, 0, 1, 2]), []), ((.ireturn, 1, [5]), [])]
def tb_J2_equals : List (Nat × List (ev_I × List (Nat × Nat))) := [(0, b_J2_equals_0), (7, b_J2_equals_7), (36, b_J2_equals_36), (54, b_J2_equals_54), (55, b_J2_equals_55)]
def b_X8_equals_0 : List (ev_I × List (Nat × Nat)) := [((.aload_n 1, 1, []), []), ((.instanceof 8, 3, [1, 7]), []), ((.ifCond .eq 45, 3, [102449]), []), ((.aload_n 1, 1, []), []), ((.checkcast 8, 3, [1, 7]), []), ((.astore_n 2, 1, []), []), ((.aload_n 0, 1, []), []), ((.getfield 7, 3, [0, 0, 0, 7]), []), ((.aload_n 2, 1, []), []), ((.getfield 7, 3, [0, 0, 0, 7]), []), ((.if_icmp .ne 29, 3, [102449]), []), ((.aload_n 0, 1, []), []), ((.getfield 13, 3, [0, 0, 1, 7]), []), ((.aload_n 2, 1, []), []), ((.getfield 13, 3, [0, 0, 1, 7]), []), ((.if_icmp .ne 18, 3, [102449]), []), ((.aload_n 0, 1, []), []), ((.getfield 16, 3, [0, 0, 2, 7]), []), ((.aload_n 2, 1, []), []), ((.getfield 16, 3, [0, 0, 2, 7]), []), ((.if_icmp .ne 7, 3, [102449]), []), ((.iconst 1, 1, []), []), ((.goto 4, 3, [102450]), [])]
def b_X8_equals_49 : List (ev_I × List (Nat × Nat)) := [((.nop, 0, [1, 0, 1, 2]), []), ((.iconst 0, 1, []), []), ((.nop, 0, [0, 102450]), [])]
def b_X8_equals_50 : List (ev_I × List (Nat × Nat)) := [((.nop, 0, [1, 0, 1, 2]), []), ((.ireturn, 1, [5]), [])]
def tb_X8_equals : List (Nat × List (ev_I × List (Nat × Nat))) := [(0, b_X8_equals_0), (49, b_X8_equals_49), (50, b_X8_equals_50)]
def b_J1_treeifyBin_0 : List (ev_I × List (Nat × Nat)) := [((.aload_n 1, 1, []), []), ((.ifnull 12, 3, [106509]), []), ((.aload_n 1, 1, []), []), ((.arraylength, 1, []), []), ((.dup, 1, []), []), ((.istore_n 3, 1, []), []), ((.bipush 64, 2, []), []), ((.if_icmp .ge 11, 3, [106517]), []), ((.nop, 0, [0, 106509]), [])]
def b_J1_treeifyBin_13 : List (ev_I × List (Nat × Nat)) := [((.nop, 0, [1, 1, 2, 3, 4, 5, 6, 7, 8]), []), ((.aload_n 0, 1, []), []), ((.invokevirtual 117, 3, [1, 11, 16, 12, 16]), []), ((.pop, 1, []), []), ((.goto 91, 3, [106605]), [])]
def b_J1_treeifyBin_21 : List (ev_I × List (Nat × Nat)) := [((.aload_n 1, 1, []), []), ((.iload_n 3, 1, []), []), ((.iconst 1, 1, []), []), ((.isub, 1, []), []), ((.iload_n 2, 1, []), []), ((.iand, 1, []), []), ((.dup, 1, []), []), ((.istore 4, 2, []), []), ((.aaload, 1, []), []), ((.dup, 1, []), []), ((.astore 5, 2, []), []), ((.ifnull 75, 3, [106605]), []), ((.aconst_null, 1, []), []), ((.astore 6, 2, []), []), ((.aconst_null, 1, []), []), ((.astore 7, 2, []), []), ((.nop, 0, [0, 106539]), [])]
def b_J1_treeifyBin_43 : List (ev_I × List (Nat × Nat)) := [((.nop, 0, [1, 2, 3, 6, 8]), []), ((.aload_n 0, 1, []), []), ((.aload 5, 2, []), []), ((.aconst_null, 1, []), []), ((.invokevirtual 215, 3, []), []), ((.astore 8, 2, []), []), ((.aload 7, 2, []), []), ((.ifnonnull 10, 3, [106560]), []), ((.aload 8, 2, []), []), ((.astore 6, 2, []), []), ((.goto 17, 3, [106574]), [])]
def b_J1_treeifyBin_64 : List (ev_I × List (Nat × Nat)) := [((.aload 8, 2, []), []), ((.aload 7, 2, []), []), ((.putfield 219, 3, []), []), ((.aload 7, 2, []), []), ((.aload 8, 2, []), []), ((.putfield 223, 3, []), []), ((.nop, 0, [0, 106574]), [])]
def b_J1_treeifyBin_78 : List (ev_I × List (Nat × Nat)) := [((.nop, 0, [1, 2, 3, 7]), []), ((.aload 8, 2, []), []), ((.astore 7, 2, []), []), ((.aload 5, 2, []), []), ((.getfield 177, 3, [0, 4, 3, 13, 14]), []), ((.dup, 1, []), []), ((.astore 5, 2, []), []), ((.ifnonnull (-47), 3, [106539]), []), ((.aload_n 1, 1, []), []), ((.iload 4, 2, []), []), ((.aload 6, 2, []), []), ((.dup_x2, 1, []), []), ((.aastore, 1, []), []), ((.ifnull 9, 3, [106605]), []), ((.aload 6, 2, []), []), ((.aload_n 1, 1, []), []), ((.invokevirtual 224, 3, []), []), ((.nop, 0, [0, 106605]), [])]
def b_J1_treeifyBin_109 : List (ev_I × List (Nat × Nat)) := [((.nop, 0, [1, 0, 1, 2, 3, 4, 5, 6, 7, 8]), []), ((.return_, 1, []), [])]
def tb_J1_treeifyBin : List (Nat × List (ev_I × List (Nat × Nat))) := [(0, b_J1_treeifyBin_0), (13, b_J1_treeifyBin_13), (21, b_J1_treeifyBin_21), (43, b_J1_treeifyBin_43), (64, b_J1_treeifyBin_64), (78, b_J1_treeifyBin_78), (109, b_J1_treeifyBin_109)]
def b_J1_afterNodeAccess_0 : List (ev_I × List (Nat × Nat)) := [((.return_, 1, []), [])]
def tb_J1_afterNodeAccess : List (Nat × List (ev_I × List (Nat × Nat))) := [(0, b_J1_afterNodeAccess_0)]
def b_J34_afterNodeAccess_0 : List (ev_I × List (Nat × Nat)) := [((.aload_n 0, 1, []), []), ((.getfield 1, 3, [0, 0, 11, 12]), []), ((.iconst 2, 1, []), []), ((.if_icmp .eq 17, 3, [114710]), []), ((.aload_n 0, 1, []), []), ((.getfield 1, 3, [0, 0, 11, 12]), []), ((.ifCond .ne 129, 3, [114829]), []), ((.aload_n 0, 1, []), []), ((.getfield 64, 3, [0, 5, 10, 12]), []), ((.ifCond .eq 122, 3, [114829]), []), ((.nop, 0, [0, 114710]), [])]
def b_J34_afterNodeAccess_22 : List (ev_I × List (Nat × Nat)) := [((.nop, 0, [1, 2, 3, 4, 5, 6]), []), ((.aload_n 0, 1, []), []), ((.getfield 11, 3, [0, 4, 9, 12]), []), ((.dup, 1, []), []), ((.astore_n 2, 1, []), []), ((.aload_n 1, 1, []), []), ((.if_acmp .eq 112, 3, [114829]), []), ((.aload_n 1, 1, []), []), ((.checkcast 15, 3, [1, 14]), []), ((.astore 4, 2, []), []), ((.aload 4, 2, []), []), ((.getfield 19, 3, [0, 4, 4, 14]), []), ((.astore 5, 2, []), []), ((.aload 4, 2, []), []), ((.getfield 14, 3, [0, 4, 5, 14]), []), ((.astore 6, 2, []), []), ((.aload 4, 2, []), []), ((.aconst_null, 1, []), []), ((.putfield 14, 3, [0, 4, 5, 14]), []), ((.aload 5, 2, []), []), ((.ifnonnull 12, 3, [114760]), []), ((.aload_n 0, 1, []), []), ((.aload 6, 2, []), []), ((.putfield 7, 3, [0, 4, 8, 12]), []), ((.goto 10, 3, [114767]), [])]
def b_J34_afterNodeAccess_72 : List (ev_I × List (Nat × Nat)) := [((.aload 5, 2, []), []), ((.aload 6, 2, []), []), ((.putfield 14, 3, [0, 4, 5, 14]), []), ((.nop, 0, [0, 114767]), [])]
def b_J34_afterNodeAccess_79 : List (ev_I × List (Nat × Nat)) := [((.nop, 0, [1, 1, 3]), []), ((.aload 6, 2, []), []), ((.ifnull 13, 3, [114782]), []), ((.aload 6, 2, []), []), ((.aload 5, 2, []), []), ((.putfield 19, 3, [0, 4, 4, 14]), []), ((.goto 6, 3, [114785]), [])]
def b_J34_afterNodeAccess_94 : List (ev_I × List (Nat × Nat)) := [((.aload 5, 2, []), []), ((.astore_n 2, 1, []), []), ((.nop, 0, [0, 114785]), [])]
def b_J34_afterNodeAccess_97 : List (ev_I × List (Nat × Nat)) := [((.nop, 0, [1, 1, 3, 5, 6]), []), ((.aload_n 2, 1, []), []), ((.ifnonnull 12, 3, [114798]), []), ((.aload_n 0, 1, []), []), ((.aload 4, 2, []), []), ((.putfield 7, 3, [0, 4, 8, 12]), []), ((.goto 15, 3, [114810]), [])]
def b_J34_afterNodeAccess_110 : List (ev_I × List (Nat × Nat)) := [((.aload 4, 2, []), []), ((.aload_n 2, 1, []), []), ((.putfield 19, 3, [0, 4, 4, 14]), []), ((.aload_n 2, 1, []), []), ((.aload 4, 2, []), []), ((.putfield 14, 3, [0, 4, 5, 14]), []), ((.nop, 0, [0, 114810]), [])]
def b_J34_afterNodeAccess_122 : List (ev_I × List (Nat × Nat)) := [((.nop, 0, [1, 1, 2, 3, 5, 6]), []), ((.aload_n 0, 1, []), []), ((.aload 4, 2, []), []), ((.putfield 11, 3, [0, 4, 9, 12]), []), ((.aload_n 0, 1, []), []), ((.dup, 1, []), []), ((.getfield 68, 3, [0, 0, 5, 12]), []), ((.iconst 1, 1, []), []), ((.iadd, 1, []), []), ((.putfield 68, 3, [0, 0, 5, 12]), []), ((.goto 127, 3, [114953]), [])]
def b_J34_afterNodeAccess_141 : List (ev_I × List (Nat × Nat)) := [((.nop, 0, [1, 2, 3, 4, 5, 6]), []), ((.aload_n 0, 1, []), []), ((.getfield 1, 3, [0, 0, 11, 12]), []), ((.iconst 1, 1, []), []), ((.if_icmp .ne 119, 3, [114953]), []), ((.aload_n 0, 1, []), []), ((.getfield 7, 3, [0, 4, 8, 12]), []), ((.dup, 1, []), []), ((.astore_n 3, 1, []), []), ((.aload_n 1, 1, []), []), ((.if_acmp .eq 109, 3, [114953]), []), ((.aload_n 1, 1, []), []), ((.checkcast 15, 3, [1, 14]), []), ((.astore 4, 2, []), []), ((.aload 4, 2, []), []), ((.getfield 19, 3, [0, 4, 4, 14]), []), ((.astore 5, 2, []), []), ((.aload 4, 2, []), []), ((.getfield 14, 3, [0, 4, 5, 14]), []), ((.astore 6, 2, []), []), ((.aload 4, 2, []), []), ((.aconst_null, 1, []), []), ((.putfield 19, 3, [0, 4, 4, 14]), []), ((.aload 6, 2, []), []), ((.ifnonnull 12, 3, [114887]), []), ((.aload_n 0, 1, []), []), ((.aload 5, 2, []), []), ((.putfield 11, 3, [0, 4, 9, 12]), []), ((.goto 10, 3, [114894]), [])]
def b_J34_afterNodeAccess_199 : List (ev_I × List (Nat × Nat)) := [((.aload 6, 2, []), []), ((.aload 5, 2, []), []), ((.putfield 19, 3, [0, 4, 4, 14]), []), ((.nop, 0, [0, 114894]), [])]
def b_J34_afterNodeAccess_206 : List (ev_I × List (Nat × Nat)) := [((.nop, 0, [1, 1, 2]), []), ((.aload 5, 2, []), []), ((.ifnull 13, 3, [114909]), []), ((.aload 5, 2, []), []), ((.aload 6, 2, []), []), ((.putfield 14, 3, [0, 4, 5, 14]), []), ((.goto 6, 3, [114912]), [])]
def b_J34_afterNodeAccess_221 : List (ev_I × List (Nat × Nat)) := [((.aload 6, 2, []), []), ((.astore_n 3, 1, []), []), ((.nop, 0, [0, 114912]), [])]
def b_J34_afterNodeAccess_224 : List (ev_I × List (Nat × Nat)) := [((.nop, 0, [1, 1, 2, 5, 6]), []), ((.aload_n 3, 1, []), []), ((.ifnonnull 12, 3, [114925]), []), ((.aload_n 0, 1, []), []), ((.aload 4, 2, []), []), ((.putfield 11, 3, [0, 4, 9, 12]), []), ((.goto 15, 3, [114937]), [])]
def b_J34_afterNodeAccess_237 : List (ev_I × List (Nat × Nat)) := [((.aload 4, 2, []), []), ((.aload_n 3, 1, []), []), ((.putfield 14, 3, [0, 4, 5, 14]), []), ((.aload_n 3, 1, []), []), ((.aload 4, 2, []), []), ((.putfield 19, 3, [0, 4, 4, 14]), []), ((.nop, 0, [0, 114937]), [])]
def b_J34_afterNodeAccess_249 : List (ev_I × List (Nat × Nat)) := [((.nop, 0, [1, 1, 2, 3, 5, 6]), []), ((.aload_n 0, 1, []), []), ((.aload 4, 2, []), []), ((.putfield 7, 3, [0, 4, 8, 12]), []), ((.aload_n 0, 1, []), []), ((.dup, 1, []), []), ((.getfield 68, 3, [0, 0, 5, 12]), []), ((.iconst 1, 1, []), []), ((.iadd, 1, []), []), ((.putfield 68, 3, [0, 0, 5, 12]), []), ((.nop, 0, [0, 114953]), [])]
def b_J34_afterNodeAccess_265 : List (ev_I × List (Nat × Nat)) := [((.nop, 0, [1, 0, 1, 2, 3, 4, 5, 6]), []), ((.return_, 1, []), [])]
def tb_J34_afterNodeAccess : List (Nat × List (ev_I × List (Nat × Nat))) := [(0, b_J34_afterNodeAccess_0), (22, b_J34_afterNodeAccess_22), (72, b_J34_afterNodeAccess_72), (79, b_J34_afterNodeAccess_79), (94, b_J34_afterNodeAccess_94), (97, b_J34_afterNodeAccess_97), (110, b_J34_afterNodeAccess_110), (122, b_J34_afterNodeAccess_122), (141, b_J34_afterNodeAccess_141), (199, b_J34_afterNodeAccess_199), (206, b_J34_afterNodeAccess_206), (221, b_J34_afterNodeAccess_221), (224, b_J34_afterNodeAccess_224), (237, b_J34_afterNodeAccess_237), (249, b_J34_afterNodeAccess_249), (265, b_J34_afterNodeAccess_265)]
def b_J1_afterNodeInsertion_0 : List (ev_I × List (Nat × Nat)) := [((.return_, 1, []), [])]
def tb_J1_afterNodeInsertion : List (Nat × List (ev_I × List (Nat × Nat))) := [(0, b_J1_afterNodeInsertion_0)]
def b_J34_removeEldestEntry_0 : List (ev_I × List (Nat × Nat)) := [((.iconst 0, 1, []), []), ((.ireturn, 1, [5]), [])]
def tb_J34_removeEldestEntry : List (Nat × List (ev_I × List (Nat × Nat))) := [(0, b_J34_removeEldestEntry_0)]
def b_J34_afterNodeInsertion_0 : List (ev_I × List (Nat × Nat)) := [((.iload_n 1, 1, []), []), ((.ifCond .eq 38, 3, [127015]), []), ((.aload_n 0, 1, []), []), ((.getfield 7, 3, [0, 4, 8, 12]), []), ((.dup, 1, []), []), ((.astore_n 2, 1, []), []), ((.ifnull 29, 3, [127015]), []), ((.aload_n 0, 1, []), []), ((.aload_n 2, 1, []), []), ((.invokevirtual 53, 3, [2, 12, 30]), []), ((.ifCond .eq 21, 3, [127015]), []), ((.aload_n 2, 1, []), []), ((.getfield 39, 3, [0, 4, 1, 14]), []), ((.astore_n 3, 1, []), []), ((.aload_n 0, 1, []), []), ((.aload_n 3, 1, []), []), ((.invokestatic 57, 3, []), []), ((.aload_n 3, 1, []), []), ((.aconst_null, 1, []), []), ((.iconst 0, 1, []), []), ((.iconst 1, 1, []), []), ((.invokevirtual 60, 3, []), []), ((.pop, 1, []), []), ((.nop, 0, [0, 127015]), [])]
def b_J34_afterNodeInsertion_39 : List (ev_I × List (Nat × Nat)) := [((.nop, 0, [1, 0, 1, 2, 3]), []), ((.return_, 1, []), [])]
def tb_J34_afterNodeInsertion : List (Nat × List (ev_I × List (Nat × Nat))) := [(0, b_J34_afterNodeInsertion_0), (39, b_J34_afterNodeInsertion_39)]
def b_J1_putVal_0 : List (ev_I × List (Nat × Nat)) := [((.aload_n 0, 1, []), []), ((.getfield 105, 3, [0, 4, 2, 11, 12]), []), ((.dup, 1, []), []), ((.astore 6, 2, []), []), ((.ifnull 12, 3, [131091]), []), ((.aload 6, 2, []), []), ((.arraylength, 1, []), []), ((.dup, 1, []), []), ((.istore 8, 2, []), []), ((.ifCond .ne 13, 3, [131101]), []), ((.nop, 0, [0, 131091]), [])]
def b_J1_putVal_19 : List (ev_I × List (Nat × Nat)) := [((.nop, 0, [1, 6, 7, 8, 9, 10, 11, 12]), []), ((.aload_n 0, 1, []), []), ((.invokevirtual 117, 3, [1, 11, 16, 12, 16]), []), ((.dup, 1, []), []), ((.astore 6, 2, []), []), ((.arraylength, 1, []), []), ((.istore 8, 2, []), []), ((.nop, 0, [0, 131101]), [])]
def b_J1_putVal_29 : List (ev_I × List (Nat × Nat)) := [((.nop, 0, [1, 7, 9, 10, 11, 12]), []), ((.aload 6, 2, []), []), ((.iload 8, 2, []), []), ((.iconst 1, 1, []), []), ((.isub, 1, []), []), ((.iload_n 1, 1, []), []), ((.iand, 1, []), []), ((.dup, 1, []), []), ((.istore 9, 2, []), []), ((.aaload, 1, []), []), ((.dup, 1, []), []), ((.astore 7, 2, []), []), ((.ifnonnull 19, 3, [131135]), []), ((.aload 6, 2, []), []), ((.iload 9, 2, []), []), ((.aload_n 0, 1, []), []), ((.iload_n 1, 1, []), []), ((.aload_n 2, 1, []), []), ((.aload_n 3, 1, []), []), ((.aconst_null, 1, []), []), ((.invokevirtual 186, 3, [5, 11, 18, 12, 21]), []), ((.aastore, 1, []), []), ((.goto 199, 3, [131331]), [])]
def b_J1_putVal_63 : List (ev_I × List (Nat × Nat)) := [((.aload 7, 2, []), []), ((.getfield 168, 3, [0, 0, 0, 13, 14]), []), ((.iload_n 1, 1, []), []), ((.if_icmp .ne 35, 3, [131176]), []), ((.aload 7, 2, []), []), ((.getfield 170, 3, [0, 4, 1, 13, 14]), []), ((.dup, 1, []), []), ((.astore 11, 2, []), []), ((.aload_n 2, 1, []), []), ((.if_acmp .eq 16, 3, [131169]), []), ((.aload_n 2, 1, []), []), ((.ifnull 19, 3, [131176]), []), ((.aload_n 2, 1, []), []), ((.aload 11, 2, []), []), ((.invokevirtual 173, 3, [2, 3, 22, 10, 22, 1, 22, 4, 22, 9, 22, 15, 24, 16, 24, 6, 22, 5, 22, 7, 25, 8, 22, 2, 22]), []), ((.ifCond .eq 10, 3, [131176]), []), ((.nop, 0, [0, 131169]), [])]
def b_J1_putVal_97 : List (ev_I × List (Nat × Nat)) := [((.nop, 0, [1, 1, 2, 6, 8, 9, 10, 11, 12]), []), ((.aload 7, 2, []), []), ((.astore 10, 2, []), []), ((.goto 121, 3, [131294]), [])]
def b_J1_putVal_104 : List (ev_I × List (Nat × Nat)) := [((.nop, 0, [1, 8, 9, 10, 11, 12]), []), ((.aload 7, 2, []), []), ((.instanceof 180, 3, [0, 13, 14]), []), ((.ifCond .eq 22, 3, [131203]), []), ((.aload 7, 2, []), []), ((.checkcast 180, 3, [0]), []), ((.aload_n 0, 1, []), []), ((.aload 6, 2, []), []), ((.iload_n 1, 1, []), []), ((.aload_n 2, 1, []), []), ((.aload_n 3, 1, []), []), ((.invokevirtual 190, 3, []), []), ((.astore 10, 2, []), []), ((.goto 94, 3, [131294]), [])]
def b_J1_putVal_131 : List (ev_I × List (Nat × Nat)) := [((.iconst 0, 1, []), []), ((.istore 12, 2, []), []), ((.nop, 0, [0, 131206]), [])]
def b_J1_putVal_134 : List (ev_I × List (Nat × Nat)) := [((.nop, 0, [1, 8, 9, 10, 11]), []), ((.aload 7, 2, []), []), ((.getfield 177, 3, [0, 4, 3, 13, 14]), []), ((.dup, 1, []), []), ((.astore 10, 2, []), []), ((.ifnonnull 33, 3, [131247]), []), ((.aload 7, 2, []), []), ((.aload_n 0, 1, []), []), ((.iload_n 1, 1, []), []), ((.aload_n 2, 1, []), []), ((.aload_n 3, 1, []), []), ((.aconst_null, 1, []), []), ((.invokevirtual 186, 3, [5, 11, 18, 12, 21]), []), ((.putfield 177, 3, [0, 4, 3, 13, 14]), []), ((.iload 12, 2, []), []), ((.bipush 7, 2, []), []), ((.if_icmp .lt 60, 3, [131294]), []), ((.aload_n 0, 1, []), []), ((.aload 6, 2, []), []), ((.iload_n 1, 1, []), []), ((.invokevirtual 194, 3, [3, 11, 26, 12, 26]), []), ((.goto 50, 3, [131294]), [])]
def b_J1_putVal_175 : List (ev_I × List (Nat × Nat)) := [((.aload 10, 2, []), []), ((.getfield 168, 3, [0, 0, 0, 13, 14]), []), ((.iload_n 1, 1, []), []), ((.if_icmp .ne 31, 3, [131284]), []), ((.aload 10, 2, []), []), ((.getfield 170, 3, [0, 4, 1, 13, 14]), []), ((.dup, 1, []), []), ((.astore 11, 2, []), []), ((.aload_n 2, 1, []), []), ((.if_acmp .eq 29, 3, [131294]), []), ((.aload_n 2, 1, []), []), ((.ifnull 15, 3, [131284]), []), ((.aload_n 2, 1, []), []), ((.aload 11, 2, []), []), ((.invokevirtual 173, 3, [2, 3, 22, 10, 22, 1, 22, 4, 22, 9, 22, 15, 24, 16, 24, 6, 22, 5, 22, 7, 25, 8, 22, 2, 22]), []), ((.ifCond .eq 6, 3, [131284]), []), ((.goto 13, 3, [131294]), [])]
def b_J1_putVal_212 : List (ev_I × List (Nat × Nat)) := [((.nop, 0, [1, 7, 8, 9, 11]), []), ((.aload 10, 2, []), []), ((.astore 7, 2, []), []), ((.iinc 12 1, 3, []), []), ((.goto (-85), 3, [131206]), [])]
def b_J1_putVal_222 : List (ev_I × List (Nat × Nat)) := [((.nop, 0, [1, 1, 2, 6, 7, 8, 9, 11, 12]), []), ((.aload 10, 2, []), []), ((.ifnull 35, 3, [131331]), []), ((.aload 10, 2, []), []), ((.getfield 162, 3, [0, 4, 2, 13, 14]), []), ((.astore 12, 2, []), []), ((.iload 4, 2, []), []), ((.ifCond .eq 8, 3, [131316]), []), ((.aload 12, 2, []), []), ((.ifnonnull 9, 3, [131322]), []), ((.nop, 0, [0, 131316]), [])]
def b_J1_putVal_244 : List (ev_I × List (Nat × Nat)) := [((.nop, 0, [1, 1, 2, 4, 5, 6, 7, 8, 9, 11]), []), ((.aload 10, 2, []), []), ((.aload_n 3, 1, []), []), ((.putfield 162, 3, [0, 4, 2, 13, 14]), []), ((.nop, 0, [0, 131322]), [])]
def b_J1_putVal_250 : List (ev_I × List (Nat × Nat)) := [((.nop, 0, [1, 1, 2, 3, 4, 5, 6, 7, 8, 9, 11]), []), ((.aload_n 0, 1, []), []), ((.aload 10, 2, []), []), ((.invokevirtual 198, 3, [2, 11, 27, 12, 28]), []), ((.aload 12, 2, []), []), ((.areturn, 1, []), [])]
def b_J1_putVal_259 : List (ev_I × List (Nat × Nat)) := [((.nop, 0, [1, 1, 2, 3, 4, 6, 7, 8, 9, 10, 11, 12]), []), ((.aload_n 0, 1, []), []), ((.dup, 1, []), []), ((.getfield 202, 3, [0, 0, 5, 11, 12]), []), ((.iconst 1, 1, []), []), ((.iadd, 1, []), []), ((.putfield 202, 3, [0, 0, 5, 11, 12]), []), ((.aload_n 0, 1, []), []), ((.dup, 1, []), []), ((.getfield 156, 3, [0, 0, 4, 11, 12]), []), ((.iconst 1, 1, []), []), ((.iadd, 1, []), []), ((.dup_x1, 1, []), []), ((.putfield 156, 3, [0, 0, 4, 11, 12]), []), ((.aload_n 0, 1, []), []), ((.getfield 88, 3, [0, 0, 6, 11, 12]), []), ((.if_icmp .le 8, 3, [131364]), []), ((.aload_n 0, 1, []), []), ((.invokevirtual 117, 3, [1, 11, 16, 12, 16]), []), ((.pop, 1, []), []), ((.nop, 0, [0, 131364]), [])]
def b_J1_putVal_292 : List (ev_I × List (Nat × Nat)) := [((.nop, 0, [1, 1, 2, 3, 4, 6, 7, 8, 9, 10, 11, 12]), []), ((.aload_n 0, 1, []), []), ((.iload 5, 2, []), []), ((.invokevirtual 205, 3, [2, 11, 29, 12, 31]), []), ((.aconst_null, 1, []), []), ((.areturn, 1, []), [])]
def tb_J1_putVal : List (Nat × List (ev_I × List (Nat × Nat))) := [(0, b_J1_putVal_0), (19, b_J1_putVal_19), (29, b_J1_putVal_29), (63, b_J1_putVal_63), (97, b_J1_putVal_97), (104, b_J1_putVal_104), (131, b_J1_putVal_131), (134, b_J1_putVal_134), (175, b_J1_putVal_175), (212, b_J1_putVal_212), (222, b_J1_putVal_222), (244, b_J1_putVal_244), (250, b_J1_putVal_250), (259, b_J1_putVal_259), (292, b_J1_putVal_292)]
def b_J1_put_0 : List (ev_I × List (Nat × Nat)) := [((.aload_n 0, 1, []), []), ((.aload_n 1, 1, []), []), ((.invokestatic 149, 3, [15, 1]), []), ((.aload_n 1, 1, []), []), ((.aload_n 2, 1, []), []), ((.iconst 0, 1, []), []), ((.iconst 1, 1, []), []), ((.invokevirtual 152, 3, [6, 11, 32, 12, 32]), []), ((.areturn, 1, []), [])]
def tb_J1_put : List (Nat × List (ev_I × List (Nat × Nat))) := [(0, b_J1_put_0)]
def b_X1_puts_0 : List (ev_I × List (Nat × Nat)) := [((.aload_n 0, 1, []), []), ((.aload_n 1, 1, []), []), ((.aload_n 2, 1, []), []), ((.invokevirtual 51, 3, [3, 11, 33, 12, 33]), []), ((.pop, 1, []), []), ((.return_, 1, []), [])]
def tb_X1_puts : List (Nat × List (ev_I × List (Nat × Nat))) := [(0, b_X1_puts_0)]
def b_X1_all_0 : List (ev_I × List (Nat × Nat)) := [((.new 52, 3, [11, 8]), []), ((.dup, 1, []), []), ((.invokespecial 57, 3, [2, 1]), []), ((.astore_n 0, 1, []), []), ((.aload_n 0, 1, []), []), ((.ldc 58, 2, [2, 0]), []), ((.new 10, 3, [3, 5]), []), ((.dup, 1, []), []), ((.iconst 0, 1, []), []), ((.iconst 1, 1, []), []), ((.invokedynamic 60, 5, [0, 14]), []), ((.invokedynamic 64, 5, [0, 15]), []), ((.invokedynamic 67, 5, [0, 16]), []), ((.invokespecial 70, 3, [3, 6]), []), ((.invokestatic 73, 3, [34, 3]), []), ((.aload_n 0, 1, []), []), ((.ldc 77, 2, [2, 1]), []), ((.new 10, 3, [3, 5]), []), ((.dup, 1, []), []), ((.iconst 1, 1, []), []), ((.iconst 1, 1, []), []), ((.invokedynamic 79, 5, [0, 17]), []), ((.invokedynamic 80, 5, [0, 18]), []), ((.invokedynamic 81, 5, [0, 19]), []), ((.invokespecial 70, 3, [3, 6]), []), ((.invokestatic 73, 3, [34, 3]), []), ((.aload_n 0, 1, []), []), ((.ldc 82, 2, [2, 2]), []), ((.new 10, 3, [3, 5]), []), ((.dup, 1, []), []), ((.iconst 2, 1, []), []), ((.iconst 2, 1, []), []), ((.invokedynamic 84, 5, [0, 20]), []), ((.invokedynamic 85, 5, [0, 21]), []), ((.invokedynamic 86, 5, [0, 22]), []), ((.invokespecial 70, 3, [3, 6]), []), ((.invokestatic 73, 3, [34, 3]), []), ((.aload_n 0, 1, []), []), ((.ldc 87, 2, [2, 3]), []), ((.new 10, 3, [3, 5]), []), ((.dup, 1, []), []), ((.iconst 3, 1, []), []), ((.iconst 0, 1, []), []), ((.invokedynamic 89, 5, [0, 23]), []), ((.invokedynamic 90, 5, [0, 24]), []), ((.invokedynamic 91, 5, [0, 25]), []), ((.invokespecial 70, 3, [3, 6]), []), ((.invokestatic 73, 3, [34, 3]), []), ((.aload_n 0, 1, []), []), ((.ldc 92, 2, [2, 4]), []), ((.new 10, 3, [3, 5]), []), ((.dup, 1, []), []), ((.iconst 4, 1, []), []), ((.iconst 3, 1, []), []), ((.invokedynamic 94, 5, [0, 26]), []), ((.invokedynamic 95, 5, [0, 27]), []), ((.invokedynamic 96, 5, [0, 28]), []), ((.invokespecial 70, 3, [3, 6]), []), ((.invokestatic 73, 3, [34, 3]), []), ((.aload_n 0, 1, []), []), ((.ldc 97, 2, [2, 5]), []), ((.new 10, 3, [3, 5]), []), ((.dup, 1, []), []), ((.iconst 5, 1, []), []), ((.iconst 4, 1, []), []), ((.invokedynamic 99, 5, [0, 29]), []), ((.invokedynamic 100, 5, [0, 30]), []), ((.invokedynamic 101, 5, [0, 31]), []), ((.invokespecial 70, 3, [3, 6]), []), ((.invokestatic 73, 3, [34, 3]), []), ((.aload_n 0, 1, []), []), ((.ldc 102, 2, [2, 6]), []), ((.new 10, 3, [3, 5]), []), ((.dup, 1, []), []), ((.bipush 6, 2, []), []), ((.iconst 5, 1, []), []), ((.invokedynamic 104, 5, [0, 32]), []), ((.aconst_null, 1, []), []), ((.aconst_null, 1, []), []), ((.invokespecial 70, 3, [3, 6]), []), ((.invokestatic 73, 3, [34, 3]), []), ((.aload_n 0, 1, []), []), ((.ldc 105, 2, [2, 7]), []), ((.new 10, 3, [3, 5]), []), ((.dup, 1, []), []), ((.bipush 7, 2, []), []), ((.bipush 6, 2, []), []), ((.invokedynamic 107, 5, [0, 33]), []), ((.aconst_null, 1, []), []), ((.aconst_null, 1, []), []), ((.invokespecial 70, 3, [3, 6]), []), ((.invokestatic 73, 3, [34, 3]), []), ((.aload_n 0, 1, []), []), ((.ldc 108, 2, [2, 8]), []), ((.new 10, 3, [3, 5]), []), ((.dup, 1, []), []), ((.bipush 8, 2, []), []), ((.bipush 7, 2, []), []), ((.invokedynamic 110, 5, [0, 34]), []), ((.aconst_null, 1, []), []), ((.aconst_null, 1, []), []), ((.invokespecial 70, 3, [3, 6]), []), ((.invokestatic 73, 3, [34, 3]), []), ((.aload_n 0, 1, []), []), ((.ldc 111, 2, [2, 9]), []), ((.new 10, 3, [3, 5]), []), ((.dup, 1, []), []), ((.bipush 9, 2, []), []), ((.iconst 0, 1, []), []), ((.invokedynamic 113, 5, [0, 35]), []), ((.invokedynamic 114, 5, [0, 36]), []), ((.invokedynamic 115, 5, [0, 37]), []), ((.invokespecial 70, 3, [3, 6]), []), ((.invokestatic 73, 3, [34, 3]), []), ((.aload_n 0, 1, []), []), ((.ldc 116, 2, [2, 10]), []), ((.new 10, 3, [3, 5]), []), ((.dup, 1, []), []), ((.bipush 10, 2, []), []), ((.iconst 0, 1, []), []), ((.invokedynamic 118, 5, [0, 38]), []), ((.invokedynamic 119, 5, [0, 39]), []), ((.invokedynamic 120, 5, [0, 40]), []), ((.invokespecial 70, 3, [3, 6]), []), ((.invokestatic 73, 3, [34, 3]), []), ((.aload_n 0, 1, []), []), ((.ldc 121, 2, [2, 11]), []), ((.new 10, 3, [3, 5]), []), ((.dup, 1, []), []), ((.bipush 11, 2, []), []), ((.iconst 0, 1, []), []), ((.invokedynamic 123, 5, [0, 41]), []), ((.aconst_null, 1, []), []), ((.aconst_null, 1, []), []), ((.invokespecial 70, 3, [3, 6]), []), ((.invokestatic 73, 3, [34, 3]), []), ((.aload_n 0, 1, []), []), ((.ldc 124, 2, [2, 13]), []), ((.new 10, 3, [3, 5]), []), ((.dup, 1, []), []), ((.bipush 12, 2, []), []), ((.iconst 0, 1, []), []), ((.invokedynamic 126, 5, [0, 42]), []), ((.aconst_null, 1, []), []), ((.aconst_null, 1, []), []), ((.invokespecial 70, 3, [3, 6]), []), ((.invokestatic 73, 3, [34, 3]), []), ((.aload_n 0, 1, []), []), ((.areturn, 1, []), [])]
def tb_X1_all : List (Nat × List (ev_I × List (Nat × Nat))) := [(0, b_X1_all_0)]
def b_J18_init_0 : List (ev_I × List (Nat × Nat)) := [((.aload_n 0, 1, []), []), ((.invokespecial 1, 3, [0, 1]), []), ((.return_, 1, []), [])]
def tb_J18_init : List (Nat × List (ev_I × List (Nat × Nat))) := [(0, b_J18_init_0)]
def b_J19_init_0 : List (ev_I × List (Nat × Nat)) := [((.aload_n 0, 1, []), []), ((.invokespecial 1, 3, [36, 1]), []), ((.aload_n 0, 1, []), []), ((.iconst 0, 1, []), []), ((.putfield 7, 3, [0, 0, 0, 18]), []), ((.return_, 1, []), [])]
def tb_J19_init : List (Nat × List (ev_I × List (Nat × Nat))) := [(0, b_J19_init_0)]
def b_J20_init_0 : List (ev_I × List (Nat × Nat)) := [((.aload_n 0, 1, []), []), ((.invokespecial 1, 3, [37, 1]), []), ((.iload_n 1, 1, []), []), ((.ifCond .le 14, 3, [155667]), []), ((.aload_n 0, 1, []), []), ((.iload_n 1, 1, []), []), ((.anewarray 7, 3, [48]), []), ((.putfield 9, 3, [0, 4, 1, 18]), []), ((.goto 44, 3, [155708]), [])]
def b_J20_init_19 : List (ev_I × List (Nat × Nat)) := [((.iload_n 1, 1, []), []), ((.ifCond .ne 13, 3, [155681]), []), ((.aload_n 0, 1, []), []), ((.getstatic 15, 3, [2, 45]), []), ((.putfield 9, 3, [0, 4, 1, 18]), []), ((.goto 30, 3, [155708]), [])]
def b_J20_init_33 : List (ev_I × List (Nat × Nat)) := [((.new 18, 3, []), []), ((.dup, 1, []), []), ((.new 20, 3, []), []), ((.dup, 1, []), []), ((.invokespecial 22, 3, []), []), ((.ldc 23, 2, []), []), ((.invokevirtual 25, 3, []), []), ((.iload_n 1, 1, []), []), ((.invokevirtual 29, 3, []), []), ((.invokevirtual 32, 3, []), []), ((.invokespecial 36, 3, []), []), ((.athrow, 1, []), [])]
def b_J20_init_60 : List (ev_I × List (Nat × Nat)) := [((.nop, 0, [1, 0, 1]), []), ((.return_, 1, []), [])]
def tb_J20_init : List (Nat × List (ev_I × List (Nat × Nat))) := [(0, b_J20_init_0), (19, b_J20_init_19), (33, b_J20_init_33), (60, b_J20_init_60)]
def b_J21_init_0 : List (ev_I × List (Nat × Nat)) := [((.aload_n 0, 1, []), []), ((.invokespecial 42, 3, [36, 1]), []), ((.aload_n 0, 1, []), []), ((.bipush 17, 2, []), []), ((.anewarray 47, 3, [48]), []), ((.putfield 3, 3, [0, 4, 0, 19]), []), ((.return_, 1, []), [])]
def tb_J21_init : List (Nat × List (ev_I × List (Nat × Nat))) := [(0, b_J21_init_0)]
def b_X2_init_0 : List (ev_I × List (Nat × Nat)) := [((.aload_n 0, 1, []), []), ((.aload_n 1, 1, []), []), ((.putfield 3, 3, [0, 4, 6, 10]), []), ((.aload_n 0, 1, []), []), ((.invokespecial 9, 3, [0, 1]), []), ((.aload_n 0, 1, []), []), ((.sipush 144, 3, []), []), ((.newarray .double, 2, [43]), []), ((.putfield 15, 3, [0, 4, 0, 10]), []), ((.aload_n 0, 1, []), []), ((.sipush 144, 3, []), []), ((.newarray .boolean, 2, [44]), []), ((.putfield 19, 3, [0, 4, 1, 10]), []), ((.return_, 1, []), [])]
def tb_X2_init : List (Nat × List (ev_I × List (Nat × Nat))) := [(0, b_X2_init_0)]
def b_X0_init_0 : List (ev_I × List (Nat × Nat)) := [((.aload_n 0, 1, []), []), ((.invokespecial 5, 3, [0, 1]), []), ((.aload_n 0, 1, []), []), ((.invokestatic 11, 3, [35, 0]), []), ((.putfield 17, 3, [0, 4, 1, 1]), []), ((.aload_n 0, 1, []), []), ((.bipush 6, 2, []), []), ((.anewarray 23, 3, [50]), []), ((.putfield 25, 3, [0, 4, 2, 1]), []), ((.aload_n 0, 1, []), []), ((.new 29, 3, [18, 3]), []), ((.dup, 1, []), []), ((.iconst 5, 1, []), []), ((.invokespecial 31, 3, [38, 2]), []), ((.putfield 34, 3, [0, 4, 3, 1]), []), ((.aload_n 0, 1, []), []), ((.new 38, 3, [19, 3]), []), ((.dup, 1, []), []), ((.invokespecial 40, 3, [39, 1]), []), ((.putfield 41, 3, [0, 4, 5, 1]), []), ((.aload_n 0, 1, []), []), ((.iconst 5, 1, []), []), ((.newarray .byte, 2, [45]), []), ((.putfield 45, 3, [0, 4, 6, 1]), []), ((.aload_n 0, 1, []), []), ((.sipush 240, 3, []), []), ((.newarray .long, 2, [41]), []), ((.putfield 49, 3, [0, 4, 8, 1]), []), ((.aload_n 0, 1, []), []), ((.bipush 6, 2, []), []), ((.newarray .long, 2, [41]), []), ((.putfield 53, 3, [0, 4, 9, 1]), []), ((.aload_n 0, 1, []), []), ((.bipush 6, 2, []), []), ((.newarray .int, 2, [40]), []), ((.putfield 56, 3, [0, 4, 10, 1]), []), ((.aload_n 0, 1, []), []), ((.iconst 3, 1, []), []), ((.newarray .int, 2, [40]), []), ((.putfield 60, 3, [0, 4, 11, 1]), []), ((.aload_n 0, 1, []), []), ((.bipush 10, 2, []), []), ((.anewarray 63, 3, [51]), []), ((.dup, 1, []), []), ((.iconst 0, 1, []), []), ((.new 63, 3, [10, 7]), []), ((.dup, 1, []), []), ((.aload_n 0, 1, []), []), ((.invokespecial 65, 3, [40, 2]), []), ((.aastore, 1, []), []), ((.dup, 1, []), []), ((.iconst 1, 1, []), []), ((.new 63, 3, [10, 7]), []), ((.dup, 1, []), []), ((.aload_n 0, 1, []), []), ((.invokespecial 65, 3, [40, 2]), []), ((.aastore, 1, []), []), ((.dup, 1, []), []), ((.iconst 2, 1, []), []), ((.new 63, 3, [10, 7]), []), ((.dup, 1, []), []), ((.aload_n 0, 1, []), []), ((.invokespecial 65, 3, [40, 2]), []), ((.aastore, 1, []), []), ((.dup, 1, []), []), ((.iconst 3, 1, []), []), ((.new 63, 3, [10, 7]), []), ((.dup, 1, []), []), ((.aload_n 0, 1, []), []), ((.invokespecial 65, 3, [40, 2]), []), ((.aastore, 1, []), []), ((.dup, 1, []), []), ((.iconst 4, 1, []), []), ((.new 63, 3, [10, 7]), []), ((.dup, 1, []), []), ((.aload_n 0, 1, []), []), ((.invokespecial 65, 3, [40, 2]), []), ((.aastore, 1, []), []), ((.dup, 1, []), []), ((.iconst 5, 1, []), []), ((.new 63, 3, [10, 7]), []), ((.dup, 1, []), []), ((.aload_n 0, 1, []), []), ((.invokespecial 65, 3, [40, 2]), []), ((.aastore, 1, []), []), ((.dup, 1, []), []), ((.bipush 6, 2, []), []), ((.new 63, 3, [10, 7]), []), ((.dup, 1, []), []), ((.aload_n 0, 1, []), []), ((.invokespecial 65, 3, [40, 2]), []), ((.aastore, 1, []), []), ((.dup, 1, []), []), ((.bipush 7, 2, []), []), ((.new 63, 3, [10, 7]), []), ((.dup, 1, []), []), ((.aload_n 0, 1, []), []), ((.invokespecial 65, 3, [40, 2]), []), ((.aastore, 1, []), []), ((.dup, 1, []), []), ((.bipush 8, 2, []), []), ((.new 63, 3, [10, 7]), []), ((.dup, 1, []), []), ((.aload_n 0, 1, []), []), ((.invokespecial 65, 3, [40, 2]), []), ((.aastore, 1, []), []), ((.dup, 1, []), []), ((.bipush 9, 2, []), []), ((.new 63, 3, [10, 7]), []), ((.dup, 1, []), []), ((.aload_n 0, 1, []), []), ((.invokespecial 65, 3, [40, 2]), []), ((.aastore, 1, []), []), ((.putfield 68, 3, [0, 4, 12, 1]), []), ((.aload_n 0, 1, []), []), ((.bipush 10, 2, []), []), ((.newarray .int, 2, [40]), []), ((.putfield 71, 3, [0, 4, 13, 1]), []), ((.aload_n 0, 1, []), []), ((.iconst 3, 1, []), []), ((.newarray .int, 2, [40]), []), ((.putfield 74, 3, [0, 4, 16, 1]), []), ((.aload_n 0, 1, []), []), ((.bipush 10, 2, []), []), ((.newarray .int, 2, [40]), []), ((.putfield 77, 3, [0, 4, 17, 1]), []), ((.aload_n 0, 1, []), []), ((.sipush 144, 3, []), []), ((.newarray .double, 2, [43]), []), ((.putfield 80, 3, [0, 4, 20, 1]), []), ((.aload_n 0, 1, []), []), ((.sipush 144, 3, []), []), ((.newarray .int, 2, [40]), []), ((.putfield 84, 3, [0, 4, 21, 1]), []), ((.aload_n 0, 1, []), []), ((.sipush 144, 3, []), []), ((.newarray .double, 2, [43]), []), ((.putfield 87, 3, [0, 4, 22, 1]), []), ((.return_, 1, []), [])]
def tb_X0_init : List (Nat × List (ev_I × List (Nat × Nat))) := [(0, b_X0_init_0)]
def b_X3_init_0 : List (ev_I × List (Nat × Nat)) := [((.aload_n 0, 1, []), []), ((.invokespecial 1, 3, [0, 1]), []), ((.aload_n 0, 1, []), []), ((.bipush 6, 2, []), []), ((.newarray .int, 2, [40]), []), ((.putfield 7, 3, [0, 4, 0, 2]), []), ((.aload_n 0, 1, []), []), ((.bipush 6, 2, []), []), ((.newarray .int, 2, [40]), []), ((.putfield 13, 3, [0, 4, 1, 2]), []), ((.aload_n 0, 1, []), []), ((.sipush 144, 3, []), []), ((.newarray .double, 2, [43]), []), ((.putfield 16, 3, [0, 4, 2, 2]), []), ((.aload_n 0, 1, []), []), ((.sipush 144, 3, []), []), ((.newarray .int, 2, [40]), []), ((.putfield 20, 3, [0, 4, 3, 2]), []), ((.aload_n 0, 1, []), []), ((.bipush 24, 2, []), []), ((.newarray .double, 2, [43]), []), ((.putfield 23, 3, [0, 4, 5, 2]), []), ((.aload_n 0, 1, []), []), ((.iconst 5, 1, []), []), ((.newarray .int, 2, [40]), []), ((.putfield 26, 3, [0, 4, 8, 2]), []), ((.aload_n 0, 1, []), []), ((.iconst 5, 1, []), []), ((.newarray .int, 2, [40]), []), ((.putfield 29, 3, [0, 4, 9, 2]), []), ((.aload_n 0, 1, []), []), ((.iconst 5, 1, []), []), ((.newarray .int, 2, [40]), []), ((.putfield 32, 3, [0, 4, 10, 2]), []), ((.aload_n 0, 1, []), []), ((.iconst 5, 1, []), []), ((.newarray .int, 2, [40]), []), ((.putfield 35, 3, [0, 4, 11, 2]), []), ((.aload_n 0, 1, []), []), ((.iconst 5, 1, []), []), ((.newarray .int, 2, [40]), []), ((.putfield 38, 3, [0, 4, 12, 2]), []), ((.aload_n 0, 1, []), []), ((.bipush 15, 2, []), []), ((.newarray .int, 2, [40]), []), ((.putfield 41, 3, [0, 4, 13, 2]), []), ((.aload_n 0, 1, []), []), ((.bipush 15, 2, []), []), ((.newarray .int, 2, [40]), []), ((.putfield 44, 3, [0, 4, 14, 2]), []), ((.aload_n 0, 1, []), []), ((.bipush 15, 2, []), []), ((.newarray .int, 2, [40]), []), ((.putfield 47, 3, [0, 4, 15, 2]), []), ((.aload_n 0, 1, []), []), ((.bipush 15, 2, []), []), ((.newarray .int, 2, [40]), []), ((.putfield 50, 3, [0, 4, 16, 2]), []), ((.aload_n 0, 1, []), []), ((.bipush 120, 2, []), []), ((.newarray .int, 2, [40]), []), ((.putfield 53, 3, [0, 4, 17, 2]), []), ((.aload_n 0, 1, []), []), ((.iconst 5, 1, []), []), ((.newarray .int, 2, [40]), []), ((.putfield 56, 3, [0, 4, 19, 2]), []), ((.aload_n 0, 1, []), []), ((.bipush 120, 2, []), []), ((.newarray .int, 2, [40]), []), ((.putfield 59, 3, [0, 4, 21, 2]), []), ((.aload_n 0, 1, []), []), ((.sipush 240, 3, []), []), ((.newarray .int, 2, [40]), []), ((.putfield 62, 3, [0, 4, 23, 2]), []), ((.aload_n 0, 1, []), []), ((.bipush 6, 2, []), []), ((.newarray .int, 2, [40]), []), ((.putfield 65, 3, [0, 4, 24, 2]), []), ((.aload_n 0, 1, []), []), ((.bipush 6, 2, []), []), ((.newarray .int, 2, [40]), []), ((.putfield 68, 3, [0, 4, 29, 2]), []), ((.aload_n 0, 1, []), []), ((.sipush 144, 3, []), []), ((.newarray .double, 2, [43]), []), ((.putfield 71, 3, [0, 4, 30, 2]), []), ((.aload_n 0, 1, []), []), ((.sipush 1440, 3, []), []), ((.newarray .double, 2, [43]), []), ((.putfield 74, 3, [0, 4, 31, 2]), []), ((.aload_n 0, 1, []), []), ((.sipush 1440, 3, []), []), ((.newarray .boolean, 2, [44]), []), ((.putfield 77, 3, [0, 4, 32, 2]), []), ((.aload_n 0, 1, []), []), ((.iconst 3, 1, []), []), ((.newarray .int, 2, [40]), []), ((.putfield 81, 3, [0, 4, 35, 2]), []), ((.aload_n 0, 1, []), []), ((.bipush 10, 2, []), []), ((.newarray .int, 2, [40]), []), ((.putfield 84, 3, [0, 4, 36, 2]), []), ((.aload_n 0, 1, []), []), ((.bipush 10, 2, []), []), ((.newarray .int, 2, [40]), []), ((.putfield 87, 3, [0, 4, 40, 2]), []), ((.aload_n 0, 1, []), []), ((.sipush 144, 3, []), []), ((.newarray .double, 2, [43]), []), ((.putfield 90, 3, [0, 4, 41, 2]), []), ((.aload_n 0, 1, []), []), ((.sipush 144, 3, []), []), ((.newarray .double, 2, [43]), []), ((.putfield 93, 3, [0, 4, 42, 2]), []), ((.aload_n 0, 1, []), []), ((.sipush 144, 3, []), []), ((.newarray .int, 2, [40]), []), ((.putfield 96, 3, [0, 4, 43, 2]), []), ((.aload_n 0, 1, []), []), ((.bipush 10, 2, []), []), ((.newarray .int, 2, [40]), []), ((.putfield 99, 3, [0, 4, 44, 2]), []), ((.aload_n 0, 1, []), []), ((.iconst 3, 1, []), []), ((.newarray .int, 2, [40]), []), ((.putfield 102, 3, [0, 4, 45, 2]), []), ((.aload_n 0, 1, []), []), ((.iconst 3, 1, []), []), ((.newarray .int, 2, [40]), []), ((.putfield 105, 3, [0, 4, 46, 2]), []), ((.iconst 0, 1, []), []), ((.istore_n 1, 1, []), []), ((.nop, 0, [0, 172294]), [])]
def b_X3_init_262 : List (ev_I × List (Nat × Nat)) := [((.iload_n 1, 1, []), []), ((.bipush 6, 2, []), []), ((.if_icmp .ge 16, 3, [172313]), []), ((.aload_n 0, 1, []), []), ((.getfield 7, 3, [0, 4, 0, 2]), []), ((.iload_n 1, 1, []), []), ((.iconst (-1), 1, []), []), ((.iastore, 1, []), []), ((.iinc 1 1, 3, []), []), ((.goto (-16), 3, [172294]), [])]
def b_X3_init_281 : List (ev_I × List (Nat × Nat)) := [((.iconst 0, 1, []), []), ((.istore_n 1, 1, []), []), ((.nop, 0, [0, 172315]), [])]
def b_X3_init_283 : List (ev_I × List (Nat × Nat)) := [((.iload_n 1, 1, []), []), ((.sipush 144, 3, []), []), ((.if_icmp .ge 16, 3, [172335]), []), ((.aload_n 0, 1, []), []), ((.getfield 20, 3, [0, 4, 3, 2]), []), ((.iload_n 1, 1, []), []), ((.iconst (-1), 1, []), []), ((.iastore, 1, []), []), ((.iinc 1 1, 3, []), []), ((.goto (-17), 3, [172315]), [])]
def b_X3_init_303 : List (ev_I × List (Nat × Nat)) := [((.return_, 1, []), [])]
def tb_X3_init : List (Nat × List (ev_I × List (Nat × Nat))) := [(0, b_X3_init_0), (262, b_X3_init_262), (281, b_X3_init_281), (283, b_X3_init_283), (303, b_X3_init_303)]
def b_X0_in_0 : List (ev_I × List (Nat × Nat)) := [((.lload_n 0, 1, []), []), ((.lload_n 2, 1, []), []), ((.lcmp, 1, []), []), ((.ifCond .lt 14, 3, [176145]), []), ((.lload_n 0, 1, []), []), ((.lload 4, 2, []), []), ((.lcmp, 1, []), []), ((.ifCond .gt 7, 3, [176145]), []), ((.iconst 1, 1, []), []), ((.goto 4, 3, [176146]), [])]
def b_X0_in_17 : List (ev_I × List (Nat × Nat)) := [((.nop, 0, [1, 0, 1, 2, 3, 4, 5]), []), ((.iconst 0, 1, []), []), ((.nop, 0, [0, 176146]), [])]
def b_X0_in_18 : List (ev_I × List (Nat × Nat)) := [((.nop, 0, [1, 0, 1, 2, 3, 4, 5]), []), ((.ireturn, 1, [5]), [])]
def tb_X0_in : List (Nat × List (ev_I × List (Nat × Nat))) := [(0, b_X0_in_0), (17, b_X0_in_17), (18, b_X0_in_18)]
def b_X0_isRow_0 : List (ev_I × List (Nat × Nat)) := [((.iload_n 0, 1, []), []), ((.i2l, 1, []), []), ((.lconst 0, 1, []), []), ((.ldc2_w 100, 3, [0, 0, 5]), []), ((.invokestatic 90, 3, [43, 3]), []), ((.ireturn, 1, [5]), [])]
def tb_X0_isRow : List (Nat × List (ev_I × List (Nat × Nat))) := [(0, b_X0_isRow_0)]
def b_X4_made_0 : List (ev_I × List (Nat × Nat)) := [((.iload_n 0, 1, []), []), ((.tableswitch 47 0 3 #[31, 35, 39, 43], 31, [184368, 184352, 184356, 184360, 184364]), [])]
def b_X4_made_32 : List (ev_I × List (Nat × Nat)) := [((.iload_n 1, 1, []), []), ((.newarray .short, 2, [46, 3]), []), ((.areturn, 1, []), [])]
def b_X4_made_36 : List (ev_I × List (Nat × Nat)) := [((.iload_n 1, 1, []), []), ((.newarray .int, 2, [40, 3]), []), ((.areturn, 1, []), [])]
def b_X4_made_40 : List (ev_I × List (Nat × Nat)) := [((.iload_n 1, 1, []), []), ((.newarray .float, 2, [42, 3]), []), ((.areturn, 1, []), [])]
def b_X4_made_44 : List (ev_I × List (Nat × Nat)) := [((.iload_n 1, 1, []), []), ((.newarray .double, 2, [43, 3]), []), ((.areturn, 1, []), [])]
def b_X4_made_48 : List (ev_I × List (Nat × Nat)) := [((.iload_n 1, 1, []), []), ((.newarray .boolean, 2, [44, 3]), []), ((.areturn, 1, []), [])]
def tb_X4_made : List (Nat × List (ev_I × List (Nat × Nat))) := [(0, b_X4_made_0), (32, b_X4_made_32), (36, b_X4_made_36), (40, b_X4_made_40), (44, b_X4_made_44), (48, b_X4_made_48)]
def b_X4_init_0 : List (ev_I × List (Nat × Nat)) := [((.aload_n 0, 1, []), []), ((.invokespecial 3, 3, [0, 1]), []), ((.aload_n 0, 1, []), []), ((.iload_n 1, 1, []), []), ((.putfield 9, 3, [0, 0, 1, 4]), []), ((.aload_n 0, 1, []), []), ((.iload_n 1, 1, []), []), ((.iload_n 2, 1, []), []), ((.invokestatic 15, 3, [45, 2]), []), ((.putfield 19, 3, [0, 4, 0, 4]), []), ((.aload_n 0, 1, []), []), ((.iload_n 2, 1, []), []), ((.putfield 23, 3, [0, 0, 2, 4]), []), ((.aload_n 0, 1, []), []), ((.iload_n 2, 1, []), []), ((.newarray .int, 2, [40]), []), ((.putfield 26, 3, [0, 4, 3, 4]), []), ((.iconst 0, 1, []), []), ((.istore_n 3, 1, []), []), ((.nop, 0, [0, 188448]), [])]
def b_X4_init_32 : List (ev_I × List (Nat × Nat)) := [((.nop, 0, [1, 1]), []), ((.iload_n 3, 1, []), []), ((.iload_n 2, 1, []), []), ((.if_icmp .ge 16, 3, [188466]), []), ((.aload_n 0, 1, []), []), ((.getfield 26, 3, [0, 4, 3, 4]), []), ((.iload_n 3, 1, []), []), ((.iconst (-1), 1, []), []), ((.iastore, 1, []), []), ((.iinc 3 1, 3, []), []), ((.goto (-15), 3, [188448]), [])]
def b_X4_init_50 : List (ev_I × List (Nat × Nat)) := [((.return_, 1, []), [])]
def tb_X4_init : List (Nat × List (ev_I × List (Nat × Nat))) := [(0, b_X4_init_0), (32, b_X4_init_32), (50, b_X4_init_50)]
def b_X0_finds_0 : List (ev_I × List (Nat × Nat)) := [((.aload_n 0, 1, []), []), ((.iload_n 1, 1, []), []), ((.putfield 96, 3, [0, 0, 0, 1]), []), ((.bipush (-10), 2, []), []), ((.iload_n 1, 1, []), []), ((.isub, 1, []), []), ((.ireturn, 1, []), [])]
def tb_X0_finds : List (Nat × List (ev_I × List (Nat × Nat))) := [(0, b_X0_finds_0)]
def b_X0_row_0 : List (ev_I × List (Nat × Nat)) := [((.iload_n 1, 1, []), []), ((.invokestatic 106, 3, [44, 1]), []), ((.ifCond .eq 21, 3, [196633]), []), ((.iload_n 2, 1, []), []), ((.i2l, 1, []), []), ((.lconst 0, 1, []), []), ((.ldc2_w 110, 3, [0, 0, 4]), []), ((.invokestatic 90, 3, [43, 3]), []), ((.ifCond .eq 9, 3, [196633]), []), ((.iload_n 3, 1, []), []), ((.bipush 24, 2, []), []), ((.if_icmp .le 6, 3, [196636]), []), ((.nop, 0, [0, 196633]), [])]
def b_X0_row_25 : List (ev_I × List (Nat × Nat)) := [((.nop, 0, [1, 0, 1, 2, 3, 4]), []), ((.bipush (-2), 2, []), []), ((.ireturn, 1, []), [])]
def b_X0_row_28 : List (ev_I × List (Nat × Nat)) := [((.aload_n 0, 1, []), []), ((.getfield 25, 3, [0, 4, 2, 1]), [(5, 196653)]), ((.iload_n 1, 1, []), []), ((.new 23, 3, [4, 4]), []), ((.dup, 1, []), []), ((.iload_n 2, 1, []), []), ((.iload_n 3, 1, []), []), ((.invokespecial 112, 3, [46, 3]), [(5, 196653)]), ((.aastore, 1, []), []), ((.iload_n 3, 1, []), []), ((.ireturn, 1, []), [])]
def b_X0_row_45 : List (ev_I × List (Nat × Nat)) := [((.astore 4, 2, []), []), ((.aload_n 0, 1, []), []), ((.iconst 5, 1, []), []), ((.invokevirtual 117, 3, [2, 1, 47]), []), ((.ireturn, 1, []), [])]
def tb_X0_row : List (Nat × List (ev_I × List (Nat × Nat))) := [(0, b_X0_row_0), (25, b_X0_row_25), (28, b_X0_row_28), (45, b_X0_row_45)]
def b_X3_in_0 : List (ev_I × List (Nat × Nat)) := [((.iload_n 0, 1, []), []), ((.iload_n 1, 1, []), []), ((.if_icmp .lt 12, 3, [200718]), []), ((.iload_n 0, 1, []), []), ((.iload_n 2, 1, []), []), ((.if_icmp .gt 7, 3, [200718]), []), ((.iconst 1, 1, []), []), ((.goto 4, 3, [200719]), [])]
def b_X3_in_14 : List (ev_I × List (Nat × Nat)) := [((.nop, 0, [1, 0, 1, 2]), []), ((.iconst 0, 1, []), []), ((.nop, 0, [0, 200719]), [])]
def b_X3_in_15 : List (ev_I × List (Nat × Nat)) := [((.nop, 0, [1, 0, 1, 2]), []), ((.ireturn, 1, [5]), [])]
def tb_X3_in : List (Nat × List (ev_I × List (Nat × Nat))) := [(0, b_X3_in_0), (14, b_X3_in_14), (15, b_X3_in_15)]
def b_X3_isRow_0 : List (ev_I × List (Nat × Nat)) := [((.iload_n 0, 1, []), []), ((.iconst 0, 1, []), []), ((.iconst 5, 1, []), []), ((.invokestatic 114, 3, [49, 3]), []), ((.ireturn, 1, [5]), [])]
def tb_X3_isRow : List (Nat × List (ev_I × List (Nat × Nat))) := [(0, b_X3_isRow_0)]
def b_X3_meets_0 : List (ev_I × List (Nat × Nat)) := [((.aload_n 0, 1, []), []), ((.iload_n 1, 1, []), []), ((.putfield 110, 3, [0, 0, 4, 2]), []), ((.bipush (-10), 2, []), []), ((.iload_n 1, 1, []), []), ((.isub, 1, []), []), ((.ireturn, 1, []), [])]
def tb_X3_meets : List (Nat × List (ev_I × List (Nat × Nat))) := [(0, b_X3_meets_0)]
def b_X3_row_0 : List (ev_I × List (Nat × Nat)) := [((.iload_n 1, 1, []), []), ((.invokestatic 122, 3, [50, 1]), []), ((.ifCond .eq 18, 3, [213014]), []), ((.iload_n 2, 1, []), []), ((.iconst 0, 1, []), []), ((.iconst 4, 1, []), []), ((.invokestatic 114, 3, [49, 3]), []), ((.ifCond .eq 9, 3, [213014]), []), ((.iload_n 3, 1, []), []), ((.bipush 24, 2, []), []), ((.if_icmp .le 6, 3, [213017]), []), ((.nop, 0, [0, 213014]), [])]
def b_X3_row_22 : List (ev_I × List (Nat × Nat)) := [((.nop, 0, [1, 0, 1, 2, 3, 4]), []), ((.bipush (-2), 2, []), []), ((.ireturn, 1, []), [])]
def b_X3_row_25 : List (ev_I × List (Nat × Nat)) := [((.iload_n 3, 1, []), []), ((.ifCond .ge 9, 3, [213027]), []), ((.aload_n 0, 1, []), []), ((.iconst 5, 1, []), []), ((.invokevirtual 126, 3, [2, 2, 51]), []), ((.ireturn, 1, []), [])]
def b_X3_row_35 : List (ev_I × List (Nat × Nat)) := [((.aload_n 0, 1, []), []), ((.getfield 7, 3, [0, 4, 0, 2]), []), ((.iload_n 1, 1, []), []), ((.iload_n 2, 1, []), []), ((.iastore, 1, []), []), ((.aload_n 0, 1, []), []), ((.getfield 13, 3, [0, 4, 1, 2]), []), ((.iload_n 1, 1, []), []), ((.iload_n 3, 1, []), []), ((.iastore, 1, []), []), ((.iconst 0, 1, []), []), ((.istore 4, 2, []), []), ((.nop, 0, [0, 213044]), [])]
def b_X3_row_52 : List (ev_I × List (Nat × Nat)) := [((.nop, 0, [1, 2]), []), ((.iload 4, 2, []), []), ((.bipush 24, 2, []), []), ((.if_icmp .ge 35, 3, [213083]), []), ((.aload_n 0, 1, []), []), ((.getfield 16, 3, [0, 4, 2, 2]), []), ((.bipush 24, 2, []), []), ((.iload_n 1, 1, []), []), ((.imul, 1, []), []), ((.iload 4, 2, []), []), ((.iadd, 1, []), []), ((.dconst 0, 1, []), []), ((.dastore, 1, []), []), ((.aload_n 0, 1, []), []), ((.getfield 20, 3, [0, 4, 3, 2]), []), ((.bipush 24, 2, []), []), ((.iload_n 1, 1, []), []), ((.imul, 1, []), []), ((.iload 4, 2, []), []), ((.iadd, 1, []), []), ((.iconst (-1), 1, []), []), ((.iastore, 1, []), []), ((.iinc 4 1, 3, []), []), ((.goto (-36), 3, [213044]), [])]
def b_X3_row_91 : List (ev_I × List (Nat × Nat)) := [((.iload_n 3, 1, []), []), ((.ireturn, 1, []), [])]
def tb_X3_row : List (Nat × List (ev_I × List (Nat × Nat))) := [(0, b_X3_row_0), (22, b_X3_row_22), (25, b_X3_row_25), (35, b_X3_row_35), (52, b_X3_row_52), (91, b_X3_row_91)]
def b_X0_lose_0 : List (ev_I × List (Nat × Nat)) := [((.iload_n 1, 1, []), []), ((.invokestatic 106, 3, [44, 1]), []), ((.ifCond .ne 6, 3, [217098]), []), ((.bipush (-2), 2, []), []), ((.ireturn, 1, []), [])]
def b_X0_lose_10 : List (ev_I × List (Nat × Nat)) := [((.aload_n 0, 1, []), []), ((.getfield 25, 3, [0, 4, 2, 1]), [(1, 217117)]), ((.iload_n 1, 1, []), []), ((.aaload, 1, []), [(1, 217117)]), ((.getfield 121, 3, [2, 0, 2, 4]), [(1, 217117)]), ((.istore_n 2, 1, []), []), ((.aload_n 0, 1, []), []), ((.getfield 25, 3, [0, 4, 2, 1]), [(1, 217117)]), ((.iload_n 1, 1, []), []), ((.aconst_null, 1, []), []), ((.aastore, 1, []), []), ((.iload_n 2, 1, []), []), ((.ireturn, 1, []), [])]
def b_X0_lose_29 : List (ev_I × List (Nat × Nat)) := [((.astore_n 2, 1, []), []), ((.aload_n 0, 1, []), []), ((.iconst 1, 1, []), []), ((.invokevirtual 117, 3, [2, 1, 47]), []), ((.ireturn, 1, []), [])]
def tb_X0_lose : List (Nat × List (ev_I × List (Nat × Nat))) := [(0, b_X0_lose_0), (10, b_X0_lose_10), (29, b_X0_lose_29)]
def b_X3_lose_0 : List (ev_I × List (Nat × Nat)) := [((.iload_n 1, 1, []), []), ((.invokestatic 122, 3, [50, 1]), []), ((.ifCond .ne 6, 3, [221194]), []), ((.bipush (-2), 2, []), []), ((.ireturn, 1, []), [])]
def b_X3_lose_10 : List (ev_I × List (Nat × Nat)) := [((.aload_n 0, 1, []), []), ((.getfield 7, 3, [0, 4, 0, 2]), []), ((.iload_n 1, 1, []), []), ((.iaload, 1, []), []), ((.iconst (-1), 1, []), []), ((.if_icmp .ne 9, 3, [221210]), []), ((.aload_n 0, 1, []), []), ((.iconst 1, 1, []), []), ((.invokevirtual 126, 3, [2, 2, 51]), []), ((.ireturn, 1, []), [])]
def b_X3_lose_26 : List (ev_I × List (Nat × Nat)) := [((.aload_n 0, 1, []), []), ((.getfield 7, 3, [0, 4, 0, 2]), []), ((.iload_n 1, 1, []), []), ((.iconst (-1), 1, []), []), ((.iastore, 1, []), []), ((.iconst 0, 1, []), []), ((.istore_n 2, 1, []), []), ((.nop, 0, [0, 221219]), [])]
def b_X3_lose_35 : List (ev_I × List (Nat × Nat)) := [((.iload_n 2, 1, []), []), ((.bipush 24, 2, []), []), ((.if_icmp .ge 21, 3, [221243]), []), ((.aload_n 0, 1, []), []), ((.getfield 20, 3, [0, 4, 3, 2]), []), ((.bipush 24, 2, []), []), ((.iload_n 1, 1, []), []), ((.imul, 1, []), []), ((.iload_n 2, 1, []), []), ((.iadd, 1, []), []), ((.iconst (-1), 1, []), []), ((.iastore, 1, []), []), ((.iinc 2 1, 3, []), []), ((.goto (-21), 3, [221219]), [])]
def b_X3_lose_59 : List (ev_I × List (Nat × Nat)) := [((.aload_n 0, 1, []), []), ((.getfield 13, 3, [0, 4, 1, 2]), []), ((.iload_n 1, 1, []), []), ((.iaload, 1, []), []), ((.ireturn, 1, []), [])]
def tb_X3_lose : List (Nat × List (ev_I × List (Nat × Nat))) := [(0, b_X3_lose_0), (10, b_X3_lose_10), (26, b_X3_lose_26), (35, b_X3_lose_35), (59, b_X3_lose_59)]
def b_X4_lays_0 : List (ev_I × List (Nat × Nat)) := [((.iload_n 1, 1, []), []), ((.tableswitch 93 0 3 #[31, 45, 58, 75], 31, [225374, 225312, 225326, 225339, 225356]), [])]
def b_X4_lays_32 : List (ev_I × List (Nat × Nat)) := [((.aload_n 0, 1, []), []), ((.getfield 19, 3, [0, 4, 0, 4]), []), ((.checkcast 34, 3, [1, 46, 40, 42, 43, 44]), []), ((.iload_n 2, 1, []), []), ((.iload_n 3, 1, []), []), ((.i2s, 1, []), []), ((.sastore, 1, [3]), []), ((.goto 72, 3, [225395]), [])]
def b_X4_lays_46 : List (ev_I × List (Nat × Nat)) := [((.aload_n 0, 1, []), []), ((.getfield 19, 3, [0, 4, 0, 4]), []), ((.checkcast 36, 3, [1, 40, 46, 42, 43, 44]), []), ((.iload_n 2, 1, []), []), ((.iload_n 3, 1, []), []), ((.iastore, 1, [3]), []), ((.goto 59, 3, [225395]), [])]
def b_X4_lays_59 : List (ev_I × List (Nat × Nat)) := [((.aload_n 0, 1, []), []), ((.getfield 19, 3, [0, 4, 0, 4]), []), ((.checkcast 37, 3, [1, 42, 46, 40, 43, 44]), []), ((.iload_n 2, 1, []), []), ((.iload_n 3, 1, []), []), ((.i2f, 1, []), []), ((.ldc 39, 2, [1, 1090519040]), []), ((.fdiv, 1, []), []), ((.fastore, 1, [3]), []), ((.goto 42, 3, [225395]), [])]
def b_X4_lays_76 : List (ev_I × List (Nat × Nat)) := [((.aload_n 0, 1, []), []), ((.getfield 19, 3, [0, 4, 0, 4]), []), ((.checkcast 40, 3, [1, 43, 46, 40, 42, 44]), []), ((.iload_n 2, 1, []), []), ((.iload_n 3, 1, []), []), ((.i2d, 1, []), []), ((.ldc2_w 42, 3, [1, 4620693217682128896]), []), ((.ddiv, 1, []), []), ((.dastore, 1, [3]), []), ((.goto 24, 3, [225395]), [])]
def b_X4_lays_94 : List (ev_I × List (Nat × Nat)) := [((.aload_n 0, 1, []), []), ((.getfield 19, 3, [0, 4, 0, 4]), []), ((.checkcast 44, 3, [1, 44, 46, 40, 42, 43]), []), ((.iload_n 2, 1, []), []), ((.iload_n 3, 1, []), []), ((.iconst 1, 1, []), []), ((.iand, 1, []), []), ((.iconst 1, 1, []), []), ((.if_icmp .ne 7, 3, [225393]), []), ((.iconst 1, 1, []), []), ((.goto 4, 3, [225394]), [])]
def b_X4_lays_113 : List (ev_I × List (Nat × Nat)) := [((.iconst 0, 1, []), []), ((.nop, 0, [0, 225394]), [])]
def b_X4_lays_114 : List (ev_I × List (Nat × Nat)) := [((.nop, 0, [1, 0, 1, 2, 3]), []), ((.bastore, 1, [3]), []), ((.nop, 0, [0, 225395]), [])]
def b_X4_lays_115 : List (ev_I × List (Nat × Nat)) := [((.nop, 0, [1, 0, 1, 2, 3]), []), ((.return_, 1, []), [])]
def tb_X4_lays : List (Nat × List (ev_I × List (Nat × Nat))) := [(0, b_X4_lays_0), (32, b_X4_lays_32), (46, b_X4_lays_46), (59, b_X4_lays_59), (76, b_X4_lays_76), (94, b_X4_lays_94), (113, b_X4_lays_113), (114, b_X4_lays_114), (115, b_X4_lays_115)]
def b_X0_put_0 : List (ev_I × List (Nat × Nat)) := [((.iload_n 1, 1, []), []), ((.invokestatic 106, 3, [44, 1]), []), ((.ifCond .eq 15, 3, [229395]), []), ((.iload_n 2, 1, []), []), ((.i2l, 1, []), []), ((.lconst 0, 1, []), []), ((.ldc2_w 110, 3, [0, 0, 4]), []), ((.invokestatic 90, 3, [43, 3]), []), ((.ifCond .ne 6, 3, [229398]), []), ((.nop, 0, [0, 229395]), [])]
def b_X0_put_19 : List (ev_I × List (Nat × Nat)) := [((.nop, 0, [1, 0, 1, 2, 3, 4, 5]), []), ((.bipush (-2), 2, []), []), ((.ireturn, 1, []), [])]
def b_X0_put_22 : List (ev_I × List (Nat × Nat)) := [((.aload_n 0, 1, []), []), ((.getfield 25, 3, [0, 4, 2, 1]), [(1, 229413), (2, 229421), (3, 229429)]), ((.iload_n 1, 1, []), []), ((.aaload, 1, []), [(1, 229413), (2, 229421), (3, 229429)]), ((.iload_n 2, 1, []), []), ((.iload_n 3, 1, []), []), ((.iload 4, 2, []), []), ((.invokevirtual 126, 3, [4, 4, 55, 7777]), [(1, 229413), (2, 229421), (3, 229429)]), ((.iconst 1, 1, []), []), ((.ireturn, 1, []), [])]
def b_X0_put_37 : List (ev_I × List (Nat × Nat)) := [((.astore 5, 2, []), []), ((.aload_n 0, 1, []), []), ((.iconst 1, 1, []), []), ((.invokevirtual 117, 3, [2, 1, 47]), []), ((.ireturn, 1, []), [])]
def b_X0_put_45 : List (ev_I × List (Nat × Nat)) := [((.astore 5, 2, []), []), ((.aload_n 0, 1, []), []), ((.iconst 3, 1, []), []), ((.invokevirtual 117, 3, [2, 1, 47]), []), ((.ireturn, 1, []), [])]
def b_X0_put_53 : List (ev_I × List (Nat × Nat)) := [((.astore 5, 2, []), []), ((.aload_n 0, 1, []), []), ((.iconst 2, 1, []), []), ((.invokevirtual 117, 3, [2, 1, 47]), []), ((.ireturn, 1, []), [])]
def tb_X0_put : List (Nat × List (ev_I × List (Nat × Nat))) := [(0, b_X0_put_0), (19, b_X0_put_19), (22, b_X0_put_22), (37, b_X0_put_37), (45, b_X0_put_45), (53, b_X0_put_53)]
def b_X3_put_0 : List (ev_I × List (Nat × Nat)) := [((.iload_n 1, 1, []), []), ((.invokestatic 122, 3, [50, 1]), []), ((.ifCond .eq 12, 3, [233488]), []), ((.iload_n 2, 1, []), []), ((.iconst 0, 1, []), []), ((.iconst 4, 1, []), []), ((.invokestatic 114, 3, [49, 3]), []), ((.ifCond .ne 6, 3, [233491]), []), ((.nop, 0, [0, 233488]), [])]
def b_X3_put_16 : List (ev_I × List (Nat × Nat)) := [((.nop, 0, [1, 0, 1, 2, 3, 4, 5]), []), ((.bipush (-2), 2, []), []), ((.ireturn, 1, []), [])]
def b_X3_put_19 : List (ev_I × List (Nat × Nat)) := [((.aload_n 0, 1, []), []), ((.getfield 7, 3, [0, 4, 0, 2]), []), ((.iload_n 1, 1, []), []), ((.iaload, 1, []), []), ((.iconst (-1), 1, []), []), ((.if_icmp .ne 7, 3, [233505]), []), ((.iconst 1, 1, []), []), ((.goto 38, 3, [233540]), [])]
def b_X3_put_33 : List (ev_I × List (Nat × Nat)) := [((.aload_n 0, 1, []), []), ((.getfield 7, 3, [0, 4, 0, 2]), []), ((.iload_n 1, 1, []), []), ((.iaload, 1, []), []), ((.iload_n 2, 1, []), []), ((.if_icmp .eq 7, 3, [233519]), []), ((.iconst 3, 1, []), []), ((.goto 24, 3, [233540]), [])]
def b_X3_put_47 : List (ev_I × List (Nat × Nat)) := [((.iload_n 3, 1, []), []), ((.iconst 0, 1, []), []), ((.aload_n 0, 1, []), []), ((.getfield 13, 3, [0, 4, 1, 2]), []), ((.iload_n 1, 1, []), []), ((.iaload, 1, []), []), ((.iconst 1, 1, []), []), ((.isub, 1, []), []), ((.invokestatic 114, 3, [49, 3]), []), ((.ifCond .eq 7, 3, [233539]), []), ((.iconst 0, 1, []), []), ((.goto 4, 3, [233540]), [])]
def b_X3_put_67 : List (ev_I × List (Nat × Nat)) := [((.iconst 2, 1, []), []), ((.nop, 0, [0, 233540]), [])]
def b_X3_put_68 : List (ev_I × List (Nat × Nat)) := [((.nop, 0, [1, 5]), []), ((.istore 5, 2, []), []), ((.iload 5, 2, []), []), ((.ifCond .le 10, 3, [233554]), []), ((.aload_n 0, 1, []), []), ((.iload 5, 2, []), []), ((.invokevirtual 126, 3, [2, 2, 51]), []), ((.ireturn, 1, []), [])]
def b_X3_put_82 : List (ev_I × List (Nat × Nat)) := [((.aload_n 0, 1, []), []), ((.getfield 16, 3, [0, 4, 2, 2]), []), ((.bipush 24, 2, []), []), ((.iload_n 1, 1, []), []), ((.imul, 1, []), []), ((.iload_n 3, 1, []), []), ((.iadd, 1, []), []), ((.iload_n 2, 1, []), []), ((.ifCond .ne 10, 3, [233575]), []), ((.iload 4, 2, []), []), ((.i2s, 1, []), []), ((.i2d, 1, []), []), ((.goto 49, 3, [233621]), [])]
def b_X3_put_103 : List (ev_I × List (Nat × Nat)) := [((.iload_n 2, 1, []), []), ((.iconst 1, 1, []), []), ((.if_icmp .ne 9, 3, [233586]), []), ((.iload 4, 2, []), []), ((.i2d, 1, []), []), ((.goto 38, 3, [233621]), [])]
def b_X3_put_114 : List (ev_I × List (Nat × Nat)) := [((.iload_n 2, 1, []), []), ((.iconst 2, 1, []), []), ((.if_icmp .ne 13, 3, [233601]), []), ((.iload 4, 2, []), []), ((.i2f, 1, []), []), ((.ldc 130, 2, [1, 1090519040]), []), ((.fdiv, 1, []), []), ((.f2d, 1, []), []), ((.goto 23, 3, [233621]), [])]
def b_X3_put_129 : List (ev_I × List (Nat × Nat)) := [((.iload_n 2, 1, []), []), ((.iconst 3, 1, []), []), ((.if_icmp .ne 13, 3, [233616]), []), ((.iload 4, 2, []), []), ((.i2d, 1, []), []), ((.ldc2_w 131, 3, [1, 4620693217682128896]), []), ((.ddiv, 1, []), []), ((.goto 8, 3, [233621]), [])]
def b_X3_put_144 : List (ev_I × List (Nat × Nat)) := [((.iload 4, 2, []), []), ((.iconst 1, 1, []), []), ((.iand, 1, []), []), ((.i2d, 1, []), []), ((.nop, 0, [0, 233621]), [])]
def b_X3_put_149 : List (ev_I × List (Nat × Nat)) := [((.nop, 0, [1, 0, 1, 2, 3, 4, 5]), []), ((.dastore, 1, []), []), ((.iconst 1, 1, []), []), ((.ireturn, 1, []), [])]
def tb_X3_put : List (Nat × List (ev_I × List (Nat × Nat))) := [(0, b_X3_put_0), (16, b_X3_put_16), (19, b_X3_put_19), (33, b_X3_put_33), (47, b_X3_put_47), (67, b_X3_put_67), (68, b_X3_put_68), (82, b_X3_put_82), (103, b_X3_put_103), (114, b_X3_put_114), (129, b_X3_put_129), (144, b_X3_put_144), (149, b_X3_put_149)]
def b_X0_no_0 : List (ev_I × List (Nat × Nat)) := [((.ldc2_w 94, 3, [0, 1, 9223372036854775808]), []), ((.iload_n 0, 1, []), []), ((.i2l, 1, []), []), ((.lsub, 1, []), []), ((.lreturn, 1, []), [])]
def tb_X0_no : List (Nat × List (ev_I × List (Nat × Nat))) := [(0, b_X0_no_0)]
def b_J27_isNaN_0 : List (ev_I × List (Nat × Nat)) := [((.fload_n 0, 1, []), []), ((.fload_n 0, 1, []), []), ((.fcmp .l, 1, []), []), ((.ifCond .eq 7, 3, [241674]), []), ((.iconst 1, 1, []), []), ((.goto 4, 3, [241675]), [])]
def b_J27_isNaN_10 : List (ev_I × List (Nat × Nat)) := [((.iconst 0, 1, []), []), ((.nop, 0, [0, 241675]), [])]
def b_J27_isNaN_11 : List (ev_I × List (Nat × Nat)) := [((.nop, 0, [1, 0]), []), ((.ireturn, 1, [5]), [])]
def tb_J27_isNaN : List (Nat × List (ev_I × List (Nat × Nat))) := [(0, b_J27_isNaN_0), (10, b_J27_isNaN_10), (11, b_J27_isNaN_11)]
def b_J27_floatToIntBits_0 : List (ev_I × List (Nat × Nat)) := [((.fload_n 0, 1, []), []), ((.invokestatic 59, 3, [59, 1]), []), ((.ifCond .ne 8, 3, [245772]), []), ((.fload_n 0, 1, []), []), ((.invokestatic 74, 3, [9000, 1]), []), ((.ireturn, 1, []), [])]
def b_J27_floatToIntBits_12 : List (ev_I × List (Nat × Nat)) := [((.ldc 77, 2, [0, 0, 2143289344]), []), ((.ireturn, 1, []), [])]
def tb_J27_floatToIntBits : List (Nat × List (ev_I × List (Nat × Nat))) := [(0, b_J27_floatToIntBits_0), (12, b_J27_floatToIntBits_12)]
def b_J28_isNaN_0 : List (ev_I × List (Nat × Nat)) := [((.dload_n 0, 1, []), []), ((.dload_n 0, 1, []), []), ((.dcmp .l, 1, []), []), ((.ifCond .eq 7, 3, [249866]), []), ((.iconst 1, 1, []), []), ((.goto 4, 3, [249867]), [])]
def b_J28_isNaN_10 : List (ev_I × List (Nat × Nat)) := [((.iconst 0, 1, []), []), ((.nop, 0, [0, 249867]), [])]
def b_J28_isNaN_11 : List (ev_I × List (Nat × Nat)) := [((.nop, 0, [1, 0, 1]), []), ((.ireturn, 1, [5]), [])]
def tb_J28_isNaN : List (Nat × List (ev_I × List (Nat × Nat))) := [(0, b_J28_isNaN_0), (10, b_J28_isNaN_10), (11, b_J28_isNaN_11)]
def b_J28_doubleToLongBits_0 : List (ev_I × List (Nat × Nat)) := [((.dload_n 0, 1, []), []), ((.invokestatic 122, 3, [61, 1]), []), ((.ifCond .ne 8, 3, [253964]), []), ((.dload_n 0, 1, []), []), ((.invokestatic 134, 3, [9000, 2]), []), ((.lreturn, 1, []), [])]
def b_J28_doubleToLongBits_12 : List (ev_I × List (Nat × Nat)) := [((.ldc2_w 137, 3, [0, 0, 9221120237041090560]), []), ((.lreturn, 1, []), [])]
def tb_J28_doubleToLongBits : List (Nat × List (ev_I × List (Nat × Nat))) := [(0, b_J28_doubleToLongBits_0), (12, b_J28_doubleToLongBits_12)]
def b_X4_tells_0 : List (ev_I × List (Nat × Nat)) := [((.aload_n 0, 1, []), []), ((.getfield 9, 3, [0, 0, 1, 4]), []), ((.tableswitch 81 0 3 #[32, 43, 54, 68], 32, [258133, 258084, 258095, 258106, 258120]), [])]
def b_X4_tells_36 : List (ev_I × List (Nat × Nat)) := [((.aload_n 0, 1, []), []), ((.getfield 19, 3, [0, 4, 0, 4]), []), ((.checkcast 34, 3, [1, 46]), []), ((.iload_n 1, 1, []), []), ((.saload, 1, [3]), []), ((.i2l, 1, []), []), ((.lreturn, 1, []), [])]
def b_X4_tells_47 : List (ev_I × List (Nat × Nat)) := [((.aload_n 0, 1, []), []), ((.getfield 19, 3, [0, 4, 0, 4]), []), ((.checkcast 36, 3, [1, 40]), []), ((.iload_n 1, 1, []), []), ((.iaload, 1, [3]), []), ((.i2l, 1, []), []), ((.lreturn, 1, []), [])]
def b_X4_tells_58 : List (ev_I × List (Nat × Nat)) := [((.aload_n 0, 1, []), []), ((.getfield 19, 3, [0, 4, 0, 4]), []), ((.checkcast 37, 3, [1, 42]), []), ((.iload_n 1, 1, []), []), ((.faload, 1, [3]), []), ((.invokestatic 46, 3, [60, 1]), []), ((.i2l, 1, []), []), ((.lreturn, 1, []), [])]
def b_X4_tells_72 : List (ev_I × List (Nat × Nat)) := [((.aload_n 0, 1, []), []), ((.getfield 19, 3, [0, 4, 0, 4]), []), ((.checkcast 40, 3, [1, 43]), []), ((.iload_n 1, 1, []), []), ((.daload, 1, [3]), []), ((.invokestatic 52, 3, [62, 1]), []), ((.lreturn, 1, []), [])]
def b_X4_tells_85 : List (ev_I × List (Nat × Nat)) := [((.aload_n 0, 1, []), []), ((.getfield 19, 3, [0, 4, 0, 4]), []), ((.checkcast 44, 3, [1, 44]), []), ((.iload_n 1, 1, []), []), ((.baload, 1, [3]), []), ((.ifCond .eq 7, 3, [258149]), []), ((.lconst 1, 1, []), []), ((.goto 4, 3, [258150]), [])]
def b_X4_tells_101 : List (ev_I × List (Nat × Nat)) := [((.lconst 0, 1, []), []), ((.nop, 0, [0, 258150]), [])]
def b_X4_tells_102 : List (ev_I × List (Nat × Nat)) := [((.nop, 0, [1, 0, 1]), []), ((.lreturn, 1, []), [])]
def tb_X4_tells : List (Nat × List (ev_I × List (Nat × Nat))) := [(0, b_X4_tells_0), (36, b_X4_tells_36), (47, b_X4_tells_47), (58, b_X4_tells_58), (72, b_X4_tells_72), (85, b_X4_tells_85), (101, b_X4_tells_101), (102, b_X4_tells_102)]
def b_X0_get_0 : List (ev_I × List (Nat × Nat)) := [((.iload_n 1, 1, []), []), ((.invokestatic 106, 3, [44, 1]), []), ((.ifCond .ne 9, 3, [262157]), []), ((.bipush (-2), 2, []), []), ((.invokestatic 134, 3, [58, 1]), []), ((.lreturn, 1, []), [])]
def b_X0_get_13 : List (ev_I × List (Nat × Nat)) := [((.aload_n 0, 1, []), []), ((.getfield 25, 3, [0, 4, 2, 1]), [(1, 262168), (3, 262178)]), ((.iload_n 1, 1, []), []), ((.aaload, 1, []), [(1, 262168), (3, 262178)]), ((.iload_n 2, 1, []), []), ((.invokevirtual 138, 3, [2, 4, 63, 7777]), [(1, 262168), (3, 262178)]), ((.lreturn, 1, []), [])]
def b_X0_get_24 : List (ev_I × List (Nat × Nat)) := [((.astore_n 3, 1, []), []), ((.aload_n 0, 1, []), []), ((.iconst 1, 1, []), []), ((.invokevirtual 117, 3, [2, 1, 47]), []), ((.invokestatic 134, 3, [58, 1]), []), ((.lreturn, 1, []), [])]
def b_X0_get_34 : List (ev_I × List (Nat × Nat)) := [((.astore_n 3, 1, []), []), ((.aload_n 0, 1, []), []), ((.iconst 2, 1, []), []), ((.invokevirtual 117, 3, [2, 1, 47]), []), ((.invokestatic 134, 3, [58, 1]), []), ((.lreturn, 1, []), [])]
def tb_X0_get : List (Nat × List (ev_I × List (Nat × Nat))) := [(0, b_X0_get_0), (13, b_X0_get_13), (24, b_X0_get_24), (34, b_X0_get_34)]
def b_X3_no_0 : List (ev_I × List (Nat × Nat)) := [((.ldc2_w 108, 3, [0, 1, 9223372036854775808]), []), ((.iload_n 0, 1, []), []), ((.i2l, 1, []), []), ((.lsub, 1, []), []), ((.lreturn, 1, []), [])]
def tb_X3_no : List (Nat × List (ev_I × List (Nat × Nat))) := [(0, b_X3_no_0)]
def b_X3_lacks_0 : List (ev_I × List (Nat × Nat)) := [((.aload_n 0, 1, []), []), ((.getfield 7, 3, [0, 4, 0, 2]), []), ((.iload_n 1, 1, []), []), ((.iaload, 1, []), []), ((.iconst (-1), 1, []), []), ((.if_icmp .ne 7, 3, [270350]), []), ((.iconst 1, 1, []), []), ((.goto 24, 3, [270371]), [])]
def b_X3_lacks_14 : List (ev_I × List (Nat × Nat)) := [((.iload_n 2, 1, []), []), ((.iconst 0, 1, []), []), ((.aload_n 0, 1, []), []), ((.getfield 13, 3, [0, 4, 1, 2]), []), ((.iload_n 1, 1, []), []), ((.iaload, 1, []), []), ((.iconst 1, 1, []), []), ((.isub, 1, []), []), ((.invokestatic 114, 3, [49, 3]), []), ((.ifCond .eq 7, 3, [270370]), []), ((.iconst 0, 1, []), []), ((.goto 4, 3, [270371]), [])]
def b_X3_lacks_34 : List (ev_I × List (Nat × Nat)) := [((.iconst 2, 1, []), []), ((.nop, 0, [0, 270371]), [])]
def b_X3_lacks_35 : List (ev_I × List (Nat × Nat)) := [((.nop, 0, [1, 0, 1, 2]), []), ((.ireturn, 1, []), [])]
def tb_X3_lacks : List (Nat × List (ev_I × List (Nat × Nat))) := [(0, b_X3_lacks_0), (14, b_X3_lacks_14), (34, b_X3_lacks_34), (35, b_X3_lacks_35)]
def b_X3_bitsOf_0 : List (ev_I × List (Nat × Nat)) := [((.dload_n 0, 1, []), []), ((.dconst 0, 1, []), []), ((.dcmp .g, 1, []), []), ((.ifCond .ge 8, 3, [274443]), []), ((.dload_n 0, 1, []), []), ((.dneg, 1, []), []), ((.goto 4, 3, [274444]), [])]
def b_X3_bitsOf_11 : List (ev_I × List (Nat × Nat)) := [((.dload_n 0, 1, []), []), ((.nop, 0, [0, 274444]), [])]
def b_X3_bitsOf_12 : List (ev_I × List (Nat × Nat)) := [((.nop, 0, [1, 0, 1, 4, 5, 6, 7, 8, 9, 10]), []), ((.dstore 4, 2, []), []), ((.iconst 0, 1, []), []), ((.istore 6, 2, []), []), ((.nop, 0, [0, 274449]), [])]
def b_X3_bitsOf_17 : List (ev_I × List (Nat × Nat)) := [((.nop, 0, [1, 0, 1, 7, 8, 9, 10]), []), ((.dload 4, 2, []), []), ((.ldc2_w 133, 3, [1, 4611686018427387904]), []), ((.dcmp .l, 1, []), []), ((.ifCond .lt 17, 3, [274472]), []), ((.dload 4, 2, []), []), ((.ldc2_w 133, 3, [1, 4611686018427387904]), []), ((.ddiv, 1, []), []), ((.dstore 4, 2, []), []), ((.iinc 6 1, 3, []), []), ((.goto (-20), 3, [274449]), [])]
def b_X3_bitsOf_40 : List (ev_I × List (Nat × Nat)) := [((.nop, 0, [1, 0, 1, 7, 8, 9, 10]), []), ((.dload 4, 2, []), []), ((.dconst 1, 1, []), []), ((.dcmp .g, 1, []), []), ((.ifCond .ge 30, 3, [274506]), []), ((.iload 6, 2, []), []), ((.iload_n 3, 1, []), []), ((.if_icmp .le 24, 3, [274506]), []), ((.dload 4, 2, []), []), ((.dconst 0, 1, []), []), ((.dcmp .l, 1, []), []), ((.ifCond .le 17, 3, [274506]), []), ((.dload 4, 2, []), []), ((.ldc2_w 133, 3, [1, 4611686018427387904]), []), ((.dmul, 1, []), []), ((.dstore 4, 2, []), []), ((.iinc 6 (-1), 3, []), []), ((.goto (-31), 3, [274472]), [])]
def b_X3_bitsOf_74 : List (ev_I × List (Nat × Nat)) := [((.nop, 0, [1, 0, 1, 7, 8, 9, 10]), []), ((.dload 4, 2, []), []), ((.dstore 7, 2, []), []), ((.iconst 0, 1, []), []), ((.istore 9, 2, []), []), ((.nop, 0, [0, 274513]), [])]
def b_X3_bitsOf_81 : List (ev_I × List (Nat × Nat)) := [((.nop, 0, [1, 0, 1, 10]), []), ((.iload 9, 2, []), []), ((.iload_n 2, 1, []), []), ((.if_icmp .ge 17, 3, [274533]), []), ((.dload 7, 2, []), []), ((.ldc2_w 133, 3, [1, 4611686018427387904]), []), ((.dmul, 1, []), []), ((.dstore 7, 2, []), []), ((.iinc 9 1, 3, []), []), ((.goto (-17), 3, [274513]), [])]
def b_X3_bitsOf_101 : List (ev_I × List (Nat × Nat)) := [((.dload 7, 2, []), []), ((.d2l, 1, []), []), ((.lstore 9, 2, []), []), ((.dload 4, 2, []), []), ((.dconst 1, 1, []), []), ((.dcmp .g, 1, []), []), ((.ifCond .ge 8, 3, [274550]), []), ((.lload 9, 2, []), []), ((.goto 19, 3, [274566]), [])]
def b_X3_bitsOf_118 : List (ev_I × List (Nat × Nat)) := [((.lload 9, 2, []), []), ((.lconst 1, 1, []), []), ((.iload_n 2, 1, []), []), ((.lshl, 1, []), []), ((.lsub, 1, []), []), ((.iload 6, 2, []), []), ((.iload_n 3, 1, []), []), ((.isub, 1, []), []), ((.iconst 1, 1, []), []), ((.iadd, 1, []), []), ((.i2l, 1, []), []), ((.iload_n 2, 1, []), []), ((.lshl, 1, []), []), ((.ladd, 1, []), []), ((.nop, 0, [0, 274566]), [])]
def b_X3_bitsOf_134 : List (ev_I × List (Nat × Nat)) := [((.nop, 0, [1, 0, 1, 2, 3, 4, 5, 6, 7, 8, 9, 10]), []), ((.lreturn, 1, []), [])]
def tb_X3_bitsOf : List (Nat × List (ev_I × List (Nat × Nat))) := [(0, b_X3_bitsOf_0), (11, b_X3_bitsOf_11), (12, b_X3_bitsOf_12), (17, b_X3_bitsOf_17), (40, b_X3_bitsOf_40), (74, b_X3_bitsOf_74), (81, b_X3_bitsOf_81), (101, b_X3_bitsOf_101), (118, b_X3_bitsOf_118), (134, b_X3_bitsOf_134)]
def b_X3_toldOf_0 : List (ev_I × List (Nat × Nat)) := [((.aload_n 0, 1, []), []), ((.getfield 7, 3, [0, 4, 0, 2]), []), ((.iload_n 1, 1, []), []), ((.bipush 24, 2, []), []), ((.idiv, 1, []), []), ((.iaload, 1, []), []), ((.istore_n 2, 1, []), []), ((.aload_n 0, 1, []), []), ((.getfield 16, 3, [0, 4, 2, 2]), []), ((.iload_n 1, 1, []), []), ((.daload, 1, []), []), ((.dstore_n 3, 1, []), []), ((.iload_n 2, 1, []), []), ((.iconst 2, 1, []), []), ((.if_icmp .ne 33, 3, [278580]), []), ((.dload_n 3, 1, []), []), ((.bipush 23, 2, []), []), ((.bipush (-126), 2, []), []), ((.invokestatic 135, 3, [67, 3]), []), ((.l2i, 1, []), []), ((.istore 5, 2, []), []), ((.dload_n 3, 1, []), []), ((.dconst 0, 1, []), []), ((.dcmp .g, 1, []), []), ((.ifCond .ge 12, 3, [278576]), []), ((.iload 5, 2, []), []), ((.ldc 139, 2, [0, 1, 2147483648]), []), ((.ior, 1, []), []), ((.i2l, 1, []), []), ((.goto 6, 3, [278579]), [])]
def b_X3_toldOf_48 : List (ev_I × List (Nat × Nat)) := [((.iload 5, 2, []), []), ((.i2l, 1, []), []), ((.nop, 0, [0, 278579]), [])]
def b_X3_toldOf_51 : List (ev_I × List (Nat × Nat)) := [((.nop, 0, [1, 0, 1, 2, 3, 4, 5, 6]), []), ((.lreturn, 1, []), [])]
def b_X3_toldOf_52 : List (ev_I × List (Nat × Nat)) := [((.iload_n 2, 1, []), []), ((.iconst 3, 1, []), []), ((.if_icmp .ne 32, 3, [278614]), []), ((.dload_n 3, 1, []), []), ((.bipush 52, 2, []), []), ((.sipush (-1022), 3, []), []), ((.invokestatic 135, 3, [67, 3]), []), ((.lstore 5, 2, []), []), ((.dload_n 3, 1, []), []), ((.dconst 0, 1, []), []), ((.dcmp .g, 1, []), []), ((.ifCond .ge 12, 3, [278611]), []), ((.lload 5, 2, []), []), ((.ldc2_w 108, 3, [0, 1, 9223372036854775808]), []), ((.lor, 1, []), []), ((.goto 5, 3, [278613]), [])]
def b_X3_toldOf_83 : List (ev_I × List (Nat × Nat)) := [((.lload 5, 2, []), []), ((.nop, 0, [0, 278613]), [])]
def b_X3_toldOf_85 : List (ev_I × List (Nat × Nat)) := [((.nop, 0, [1, 0, 1, 2, 3, 4, 5, 6]), []), ((.lreturn, 1, []), [])]
def b_X3_toldOf_86 : List (ev_I × List (Nat × Nat)) := [((.dload_n 3, 1, []), []), ((.d2l, 1, []), []), ((.lreturn, 1, []), [])]
def tb_X3_toldOf : List (Nat × List (ev_I × List (Nat × Nat))) := [(0, b_X3_toldOf_0), (48, b_X3_toldOf_48), (51, b_X3_toldOf_51), (52, b_X3_toldOf_52), (83, b_X3_toldOf_83), (85, b_X3_toldOf_85), (86, b_X3_toldOf_86)]
def b_X3_get_0 : List (ev_I × List (Nat × Nat)) := [((.iload_n 1, 1, []), []), ((.invokestatic 122, 3, [50, 1]), []), ((.ifCond .ne 9, 3, [282637]), []), ((.bipush (-2), 2, []), []), ((.invokestatic 140, 3, [65, 1]), []), ((.lreturn, 1, []), [])]
def b_X3_get_13 : List (ev_I × List (Nat × Nat)) := [((.aload_n 0, 1, []), []), ((.iload_n 1, 1, []), []), ((.iload_n 2, 1, []), []), ((.invokevirtual 144, 3, [3, 2, 66]), []), ((.istore_n 3, 1, []), []), ((.iload_n 3, 1, []), []), ((.ifCond .le 14, 3, [282659]), []), ((.aload_n 0, 1, []), []), ((.iload_n 3, 1, []), []), ((.invokevirtual 126, 3, [2, 2, 51]), []), ((.invokestatic 140, 3, [65, 1]), []), ((.goto 13, 3, [282669]), [])]
def b_X3_get_35 : List (ev_I × List (Nat × Nat)) := [((.aload_n 0, 1, []), []), ((.bipush 24, 2, []), []), ((.iload_n 1, 1, []), []), ((.imul, 1, []), []), ((.iload_n 2, 1, []), []), ((.iadd, 1, []), []), ((.invokevirtual 148, 3, [2, 2, 68]), []), ((.nop, 0, [0, 282669]), [])]
def b_X3_get_45 : List (ev_I × List (Nat × Nat)) := [((.nop, 0, [1, 0, 1, 2, 3]), []), ((.lreturn, 1, []), [])]
def tb_X3_get : List (Nat × List (ev_I × List (Nat × Nat))) := [(0, b_X3_get_0), (13, b_X3_get_13), (35, b_X3_get_35), (45, b_X3_get_45)]
def b_X0_copy_0 : List (ev_I × List (Nat × Nat)) := [((.iload_n 1, 1, []), []), ((.invokestatic 106, 3, [44, 1]), []), ((.ifCond .eq 10, 3, [286734]), []), ((.iload_n 3, 1, []), []), ((.invokestatic 106, 3, [44, 1]), []), ((.ifCond .ne 6, 3, [286737]), []), ((.nop, 0, [0, 286734]), [])]
def b_X0_copy_14 : List (ev_I × List (Nat × Nat)) := [((.nop, 0, [1, 0, 1, 2, 3, 4, 5, 6]), []), ((.bipush (-2), 2, []), []), ((.ireturn, 1, []), [])]
def b_X0_copy_17 : List (ev_I × List (Nat × Nat)) := [((.aload_n 0, 1, []), []), ((.getfield 25, 3, [0, 4, 2, 1]), [(1, 286765), (4, 286773), (3, 286781)]), ((.iload_n 1, 1, []), []), ((.aaload, 1, []), [(1, 286765), (4, 286773), (3, 286781)]), ((.getfield 141, 3, [2, 4, 0, 4]), [(1, 286765), (4, 286773), (3, 286781)]), ((.iload_n 2, 1, []), []), ((.aload_n 0, 1, []), []), ((.getfield 25, 3, [0, 4, 2, 1]), [(1, 286765), (4, 286773), (3, 286781)]), ((.iload_n 3, 1, []), []), ((.aaload, 1, []), [(1, 286765), (4, 286773), (3, 286781)]), ((.getfield 141, 3, [2, 4, 0, 4]), [(1, 286765), (4, 286773), (3, 286781)]), ((.iload 4, 2, []), []), ((.iload 5, 2, []), []), ((.invokestatic 145, 3, [9000, 3]), [(1, 286765), (4, 286773), (3, 286781)]), ((.iconst 1, 1, []), []), ((.ireturn, 1, []), [])]
def b_X0_copy_45 : List (ev_I × List (Nat × Nat)) := [((.astore 6, 2, []), []), ((.aload_n 0, 1, []), []), ((.iconst 1, 1, []), []), ((.invokevirtual 117, 3, [2, 1, 47]), []), ((.ireturn, 1, []), [])]
def b_X0_copy_53 : List (ev_I × List (Nat × Nat)) := [((.astore 6, 2, []), []), ((.aload_n 0, 1, []), []), ((.iconst 4, 1, []), []), ((.invokevirtual 117, 3, [2, 1, 47]), []), ((.ireturn, 1, []), [])]
def b_X0_copy_61 : List (ev_I × List (Nat × Nat)) := [((.astore 6, 2, []), []), ((.aload_n 0, 1, []), []), ((.iconst 2, 1, []), []), ((.invokevirtual 117, 3, [2, 1, 47]), []), ((.ireturn, 1, []), [])]
def tb_X0_copy : List (Nat × List (ev_I × List (Nat × Nat))) := [(0, b_X0_copy_0), (14, b_X0_copy_14), (17, b_X0_copy_17), (45, b_X0_copy_45), (53, b_X0_copy_53), (61, b_X0_copy_61)]
def b_X3_copy_0 : List (ev_I × List (Nat × Nat)) := [((.iload_n 1, 1, []), []), ((.invokestatic 122, 3, [50, 1]), []), ((.ifCond .eq 10, 3, [290830]), []), ((.iload_n 3, 1, []), []), ((.invokestatic 122, 3, [50, 1]), []), ((.ifCond .ne 6, 3, [290833]), []), ((.nop, 0, [0, 290830]), [])]
def b_X3_copy_14 : List (ev_I × List (Nat × Nat)) := [((.nop, 0, [1, 0, 1, 2, 3, 4, 5, 6]), []), ((.bipush (-2), 2, []), []), ((.ireturn, 1, []), [])]
def b_X3_copy_17 : List (ev_I × List (Nat × Nat)) := [((.aload_n 0, 1, []), []), ((.getfield 7, 3, [0, 4, 0, 2]), []), ((.iload_n 1, 1, []), []), ((.iaload, 1, []), []), ((.iconst (-1), 1, []), []), ((.if_icmp .eq 13, 3, [290853]), []), ((.aload_n 0, 1, []), []), ((.getfield 7, 3, [0, 4, 0, 2]), []), ((.iload_n 3, 1, []), []), ((.iaload, 1, []), []), ((.iconst (-1), 1, []), []), ((.if_icmp .ne 9, 3, [290859]), []), ((.nop, 0, [0, 290853]), [])]
def b_X3_copy_37 : List (ev_I × List (Nat × Nat)) := [((.nop, 0, [1, 1, 2, 3, 4, 5, 6]), []), ((.aload_n 0, 1, []), []), ((.iconst 1, 1, []), []), ((.invokevirtual 126, 3, [2, 2, 51]), []), ((.ireturn, 1, []), [])]
def b_X3_copy_43 : List (ev_I × List (Nat × Nat)) := [((.aload_n 0, 1, []), []), ((.getfield 7, 3, [0, 4, 0, 2]), []), ((.iload_n 1, 1, []), []), ((.iaload, 1, []), []), ((.aload_n 0, 1, []), []), ((.getfield 7, 3, [0, 4, 0, 2]), []), ((.iload_n 3, 1, []), []), ((.iaload, 1, []), []), ((.if_icmp .eq 9, 3, [290880]), []), ((.aload_n 0, 1, []), []), ((.iconst 4, 1, []), []), ((.invokevirtual 126, 3, [2, 2, 51]), []), ((.ireturn, 1, []), [])]
def b_X3_copy_64 : List (ev_I × List (Nat × Nat)) := [((.iload_n 2, 1, []), []), ((.ifCond .lt 48, 3, [290929]), []), ((.iload 4, 2, []), []), ((.ifCond .lt 43, 3, [290929]), []), ((.iload 5, 2, []), []), ((.ifCond .lt 38, 3, [290929]), []), ((.iload_n 2, 1, []), []), ((.i2l, 1, []), []), ((.iload 5, 2, []), []), ((.i2l, 1, []), []), ((.ladd, 1, []), []), ((.aload_n 0, 1, []), []), ((.getfield 13, 3, [0, 4, 1, 2]), []), ((.iload_n 1, 1, []), []), ((.iaload, 1, []), []), ((.i2l, 1, []), []), ((.lcmp, 1, []), []), ((.ifCond .gt 21, 3, [290929]), []), ((.iload 4, 2, []), []), ((.i2l, 1, []), []), ((.iload 5, 2, []), []), ((.i2l, 1, []), []), ((.ladd, 1, []), []), ((.aload_n 0, 1, []), []), ((.getfield 13, 3, [0, 4, 1, 2]), []), ((.iload_n 3, 1, []), []), ((.iaload, 1, []), []), ((.i2l, 1, []), []), ((.lcmp, 1, []), []), ((.ifCond .le 9, 3, [290935]), []), ((.nop, 0, [0, 290929]), [])]
def b_X3_copy_113 : List (ev_I × List (Nat × Nat)) := [((.nop, 0, [1, 1, 2, 3, 4, 5, 6]), []), ((.aload_n 0, 1, []), []), ((.iconst 2, 1, []), []), ((.invokevirtual 126, 3, [2, 2, 51]), []), ((.ireturn, 1, []), [])]
def b_X3_copy_119 : List (ev_I × List (Nat × Nat)) := [((.iconst 0, 1, []), []), ((.istore 6, 2, []), []), ((.nop, 0, [0, 290938]), [])]
def b_X3_copy_122 : List (ev_I × List (Nat × Nat)) := [((.iload 6, 2, []), []), ((.iload 5, 2, []), []), ((.if_icmp .ge 30, 3, [290972]), []), ((.aload_n 0, 1, []), []), ((.getfield 23, 3, [0, 4, 5, 2]), []), ((.iload 6, 2, []), []), ((.aload_n 0, 1, []), []), ((.getfield 16, 3, [0, 4, 2, 2]), []), ((.bipush 24, 2, []), []), ((.iload_n 1, 1, []), []), ((.imul, 1, []), []), ((.iload_n 2, 1, []), []), ((.iadd, 1, []), []), ((.iload 6, 2, []), []), ((.iadd, 1, []), []), ((.daload, 1, []), []), ((.dastore, 1, []), []), ((.iinc 6 1, 3, []), []), ((.goto (-31), 3, [290938]), [])]
def b_X3_copy_156 : List (ev_I × List (Nat × Nat)) := [((.iconst 0, 1, []), []), ((.istore 6, 2, []), []), ((.nop, 0, [0, 290975]), [])]
def b_X3_copy_159 : List (ev_I × List (Nat × Nat)) := [((.nop, 0, [1, 1, 2]), []), ((.iload 6, 2, []), []), ((.iload 5, 2, []), []), ((.if_icmp .ge 31, 3, [291010]), []), ((.aload_n 0, 1, []), []), ((.getfield 16, 3, [0, 4, 2, 2]), []), ((.bipush 24, 2, []), []), ((.iload_n 3, 1, []), []), ((.imul, 1, []), []), ((.iload 4, 2, []), []), ((.iadd, 1, []), []), ((.iload 6, 2, []), []), ((.iadd, 1, []), []), ((.aload_n 0, 1, []), []), ((.getfield 23, 3, [0, 4, 5, 2]), []), ((.iload 6, 2, []), []), ((.daload, 1, []), []), ((.dastore, 1, []), []), ((.iinc 6 1, 3, []), []), ((.goto (-32), 3, [290975]), [])]
def b_X3_copy_194 : List (ev_I × List (Nat × Nat)) := [((.iconst 1, 1, []), []), ((.ireturn, 1, []), [])]
def tb_X3_copy : List (Nat × List (ev_I × List (Nat × Nat))) := [(0, b_X3_copy_0), (14, b_X3_copy_14), (17, b_X3_copy_17), (37, b_X3_copy_37), (43, b_X3_copy_43), (64, b_X3_copy_64), (113, b_X3_copy_113), (119, b_X3_copy_119), (122, b_X3_copy_122), (156, b_X3_copy_156), (159, b_X3_copy_159), (194, b_X3_copy_194)]
def b_J21_sub_0 : List (ev_I × List (Nat × Nat)) := [((.iload_n 0, 1, []), []), ((.iload_n 1, 1, []), []), ((.isub, 1, []), []), ((.dup, 1, []), []), ((.istore_n 0, 1, []), []), ((.ifCond .ge 7, 3, [294924]), []), ((.iload_n 0, 1, []), []), ((.iload_n 2, 1, []), []), ((.iadd, 1, []), []), ((.istore_n 0, 1, []), []), ((.nop, 0, [0, 294924]), [])]
def b_J21_sub_12 : List (ev_I × List (Nat × Nat)) := [((.nop, 0, [1, 1, 2]), []), ((.iload_n 0, 1, []), []), ((.ireturn, 1, []), [])]
def tb_J21_sub : List (Nat × List (ev_I × List (Nat × Nat))) := [(0, b_J21_sub_0), (12, b_J21_sub_12)]
def b_J21_size_0 : List (ev_I × List (Nat × Nat)) := [((.aload_n 0, 1, []), []), ((.getfield 20, 3, [0, 0, 2, 19]), []), ((.aload_n 0, 1, []), []), ((.getfield 24, 3, [0, 0, 1, 19]), []), ((.aload_n 0, 1, []), []), ((.getfield 3, 3, [0, 4, 0, 19]), []), ((.arraylength, 1, []), []), ((.invokestatic 127, 3, [72, 3]), []), ((.ireturn, 1, []), [])]
def tb_J21_size : List (Nat × List (ev_I × List (Nat × Nat))) := [(0, b_J21_size_0)]
def b_J21_elementAt_0 : List (ev_I × List (Nat × Nat)) := [((.aload_n 0, 1, []), []), ((.iload_n 1, 1, []), []), ((.aaload, 1, []), []), ((.areturn, 1, []), [])]
def tb_J21_elementAt : List (Nat × List (ev_I × List (Nat × Nat))) := [(0, b_J21_elementAt_0)]
def b_J21_inc_0 : List (ev_I × List (Nat × Nat)) := [((.iinc 0 1, 3, []), []), ((.iload_n 0, 1, []), []), ((.iload_n 1, 1, []), []), ((.if_icmp .lt 5, 3, [307210]), []), ((.iconst 0, 1, []), []), ((.istore_n 0, 1, []), []), ((.nop, 0, [0, 307210]), [])]
def b_J21_inc_10 : List (ev_I × List (Nat × Nat)) := [((.nop, 0, [1, 1]), []), ((.iload_n 0, 1, []), []), ((.ireturn, 1, []), [])]
def tb_J21_inc : List (Nat × List (ev_I × List (Nat × Nat))) := [(0, b_J21_inc_0), (10, b_J21_inc_10)]
def b_J21_pollFirst_0 : List (ev_I × List (Nat × Nat)) := [((.aload_n 0, 1, []), []), ((.getfield 3, 3, [0, 4, 0, 19]), []), ((.dup, 1, []), []), ((.astore_n 1, 1, []), []), ((.aload_n 0, 1, []), []), ((.getfield 24, 3, [0, 0, 1, 19]), []), ((.dup, 1, []), []), ((.istore_n 2, 1, []), []), ((.invokestatic 103, 3, [74, 2]), []), ((.astore_n 3, 1, []), []), ((.aload_n 3, 1, []), []), ((.ifnull 17, 3, [311330]), []), ((.aload_n 1, 1, []), []), ((.iload_n 2, 1, []), []), ((.aconst_null, 1, []), []), ((.aastore, 1, []), []), ((.aload_n 0, 1, []), []), ((.iload_n 2, 1, []), []), ((.aload_n 1, 1, []), []), ((.arraylength, 1, []), []), ((.invokestatic 74, 3, [75, 2]), []), ((.putfield 24, 3, [0, 0, 1, 19]), []), ((.nop, 0, [0, 311330]), [])]
def b_J21_pollFirst_34 : List (ev_I × List (Nat × Nat)) := [((.nop, 0, [1, 0, 1, 2]), []), ((.aload_n 3, 1, []), []), ((.areturn, 1, []), [])]
def tb_J21_pollFirst : List (Nat × List (ev_I × List (Nat × Nat))) := [(0, b_J21_pollFirst_0), (34, b_J21_pollFirst_34)]
def b_X5_init_0 : List (ev_I × List (Nat × Nat)) := [((.aload_n 0, 1, []), []), ((.invokespecial 1, 3, [0, 1]), []), ((.aload_n 0, 1, []), []), ((.aload_n 1, 1, []), []), ((.putfield 7, 3, [0, 4, 0, 9]), []), ((.return_, 1, []), [])]
def tb_X5_init : List (Nat × List (ev_I × List (Nat × Nat))) := [(0, b_X5_init_0)]
def b_J21_newCapacity_0 : List (ev_I × List (Nat × Nat)) := [((.aload_n 0, 1, []), []), ((.getfield 3, 3, [0, 4, 0, 19]), []), ((.arraylength, 1, []), []), ((.istore_n 3, 1, []), []), ((.iload_n 3, 1, []), []), ((.iload_n 1, 1, []), []), ((.iadd, 1, []), []), ((.dup, 1, []), []), ((.istore 4, 2, []), []), ((.ldc 9, 2, [0, 0, 2147483639]), []), ((.isub, 1, []), []), ((.ifCond .le 21, 3, [319524]), []), ((.iload 4, 2, []), []), ((.ifCond .ge 13, 3, [319521]), []), ((.new 33, 3, []), []), ((.dup, 1, []), []), ((.ldc 35, 2, []), []), ((.invokespecial 37, 3, []), []), ((.athrow, 1, []), [])]
def b_J21_newCapacity_33 : List (ev_I × List (Nat × Nat)) := [((.ldc 41, 2, [0, 0, 2147483647]), []), ((.ireturn, 1, []), [])]
def b_J21_newCapacity_36 : List (ev_I × List (Nat × Nat)) := [((.iload_n 1, 1, []), []), ((.iload_n 2, 1, []), []), ((.if_icmp .le 6, 3, [319532]), []), ((.iload 4, 2, []), []), ((.ireturn, 1, []), [])]
def b_J21_newCapacity_44 : List (ev_I × List (Nat × Nat)) := [((.iload_n 3, 1, []), []), ((.iload_n 2, 1, []), []), ((.iadd, 1, []), []), ((.ldc 9, 2, [0, 0, 2147483639]), []), ((.isub, 1, []), []), ((.ifCond .ge 9, 3, [319547]), []), ((.iload_n 3, 1, []), []), ((.iload_n 2, 1, []), []), ((.iadd, 1, []), []), ((.goto 5, 3, [319549]), [])]
def b_J21_newCapacity_59 : List (ev_I × List (Nat × Nat)) := [((.ldc 9, 2, [0, 0, 2147483639]), []), ((.nop, 0, [0, 319549]), [])]
def b_J21_newCapacity_61 : List (ev_I × List (Nat × Nat)) := [((.nop, 0, [1, 0, 1, 2, 3, 4]), []), ((.ireturn, 1, []), [])]
def tb_J21_newCapacity : List (Nat × List (ev_I × List (Nat × Nat))) := [(0, b_J21_newCapacity_0), (33, b_J21_newCapacity_33), (36, b_J21_newCapacity_36), (44, b_J21_newCapacity_44), (59, b_J21_newCapacity_59), (61, b_J21_newCapacity_61)]
def b_J8_min_0 : List (ev_I × List (Nat × Nat)) := [((.iload_n 0, 1, []), []), ((.iload_n 1, 1, []), []), ((.if_icmp .gt 7, 3, [323593]), []), ((.iload_n 0, 1, []), []), ((.goto 4, 3, [323594]), [])]
def b_J8_min_9 : List (ev_I × List (Nat × Nat)) := [((.iload_n 1, 1, []), []), ((.nop, 0, [0, 323594]), [])]
def b_J8_min_10 : List (ev_I × List (Nat × Nat)) := [((.nop, 0, [1, 0, 1]), []), ((.ireturn, 1, []), [])]
def tb_J8_min : List (Nat × List (ev_I × List (Nat × Nat))) := [(0, b_J8_min_0), (9, b_J8_min_9), (10, b_J8_min_10)]
def b_J30_copyOf_2_0 : List (ev_I × List (Nat × Nat)) := [((.aload_n 2, 1, []), []), ((.ldc 110, 2, [2, 46]), []), ((.if_acmp .ne 10, 3, [327693]), []), ((.iload_n 1, 1, []), []), ((.anewarray 2, 3, [48]), []), ((.goto 14, 3, [327704]), [])]
def b_J30_copyOf_2_13 : List (ev_I × List (Nat × Nat)) := [((.aload_n 2, 1, []), []), ((.invokevirtual 90, 3, []), []), ((.iload_n 1, 1, []), []), ((.invokestatic 95, 3, []), []), ((.checkcast 110, 3, [1, 48]), []), ((.nop, 0, [0, 327704]), [])]
def b_J30_copyOf_2_24 : List (ev_I × List (Nat × Nat)) := [((.nop, 0, [1, 2, 3]), []), ((.astore_n 3, 1, []), []), ((.aload_n 0, 1, []), []), ((.iconst 0, 1, []), []), ((.aload_n 3, 1, []), []), ((.iconst 0, 1, []), []), ((.aload_n 0, 1, []), []), ((.arraylength, 1, []), []), ((.iload_n 1, 1, []), []), ((.invokestatic 304, 3, [79, 2]), []), ((.invokestatic 150, 3, [9000, 3]), []), ((.aload_n 3, 1, []), []), ((.areturn, 1, []), [])]
def tb_J30_copyOf_2 : List (Nat × List (ev_I × List (Nat × Nat))) := [(0, b_J30_copyOf_2_0), (13, b_J30_copyOf_2_13), (24, b_J30_copyOf_2_24)]
def b_J30_copyOf_0 : List (ev_I × List (Nat × Nat)) := [((.aload_n 0, 1, []), []), ((.iload_n 1, 1, []), []), ((.aload_n 0, 1, []), []), ((.invokevirtual 86, 3, [9000, 4, 46]), []), ((.invokestatic 300, 3, [80, 3]), []), ((.areturn, 1, []), [])]
def tb_J30_copyOf : List (Nat × List (ev_I × List (Nat × Nat))) := [(0, b_J30_copyOf_0)]
def b_J21_grow_0 : List (ev_I × List (Nat × Nat)) := [((.aload_n 0, 1, []), []), ((.getfield 3, 3, [0, 4, 0, 19]), []), ((.arraylength, 1, []), []), ((.istore_n 2, 1, []), []), ((.iload_n 2, 1, []), []), ((.bipush 64, 2, []), []), ((.if_icmp .ge 9, 3, [335890]), []), ((.iload_n 2, 1, []), []), ((.iconst 2, 1, []), []), ((.iadd, 1, []), []), ((.goto 6, 3, [335893]), [])]
def b_J21_grow_18 : List (ev_I × List (Nat × Nat)) := [((.iload_n 2, 1, []), []), ((.iconst 1, 1, []), []), ((.ishr, 1, []), []), ((.nop, 0, [0, 335893]), [])]
def b_J21_grow_21 : List (ev_I × List (Nat × Nat)) := [((.nop, 0, [1, 3, 4, 5, 6, 7, 8]), []), ((.istore 4, 2, []), []), ((.iload 4, 2, []), []), ((.iload_n 1, 1, []), []), ((.if_icmp .lt 15, 3, [335913]), []), ((.iload_n 2, 1, []), []), ((.iload 4, 2, []), []), ((.iadd, 1, []), []), ((.dup, 1, []), []), ((.istore_n 3, 1, []), []), ((.ldc 9, 2, [0, 0, 2147483639]), []), ((.isub, 1, []), []), ((.ifCond .le 11, 3, [335921]), []), ((.nop, 0, [0, 335913]), [])]
def b_J21_grow_41 : List (ev_I × List (Nat × Nat)) := [((.nop, 0, [1, 3, 5, 6, 7, 8]), []), ((.aload_n 0, 1, []), []), ((.iload_n 1, 1, []), []), ((.iload 4, 2, []), []), ((.invokevirtual 10, 3, [3, 19, 78]), []), ((.istore_n 3, 1, []), []), ((.nop, 0, [0, 335921]), [])]
def b_J21_grow_49 : List (ev_I × List (Nat × Nat)) := [((.nop, 0, [1, 1, 4, 5, 6, 7, 8]), []), ((.aload_n 0, 1, []), []), ((.aload_n 0, 1, []), []), ((.getfield 3, 3, [0, 4, 0, 19]), []), ((.iload_n 3, 1, []), []), ((.invokestatic 14, 3, [81, 2]), []), ((.dup_x1, 1, []), []), ((.putfield 3, 3, [0, 4, 0, 19]), []), ((.astore 5, 2, []), []), ((.aload_n 0, 1, []), []), ((.getfield 20, 3, [0, 0, 2, 19]), []), ((.aload_n 0, 1, []), []), ((.getfield 24, 3, [0, 0, 1, 19]), []), ((.if_icmp .lt 24, 3, [335968]), []), ((.aload_n 0, 1, []), []), ((.getfield 20, 3, [0, 0, 2, 19]), []), ((.aload_n 0, 1, []), []), ((.getfield 24, 3, [0, 0, 1, 19]), []), ((.if_icmp .ne 81, 3, [336036]), []), ((.aload 5, 2, []), []), ((.aload_n 0, 1, []), []), ((.getfield 24, 3, [0, 0, 1, 19]), []), ((.aaload, 1, []), []), ((.ifnull 71, 3, [336036]), []), ((.nop, 0, [0, 335968]), [])]
def b_J21_grow_96 : List (ev_I × List (Nat × Nat)) := [((.nop, 0, [1, 1, 4, 6, 7, 8]), []), ((.iload_n 3, 1, []), []), ((.iload_n 2, 1, []), []), ((.isub, 1, []), []), ((.istore 6, 2, []), []), ((.aload 5, 2, []), []), ((.aload_n 0, 1, []), []), ((.getfield 24, 3, [0, 0, 1, 19]), []), ((.aload 5, 2, []), []), ((.aload_n 0, 1, []), []), ((.getfield 24, 3, [0, 0, 1, 19]), []), ((.iload 6, 2, []), []), ((.iadd, 1, []), []), ((.iload_n 2, 1, []), []), ((.aload_n 0, 1, []), []), ((.getfield 24, 3, [0, 0, 1, 19]), []), ((.isub, 1, []), []), ((.invokestatic 27, 3, [9000, 3]), []), ((.aload_n 0, 1, []), []), ((.getfield 24, 3, [0, 0, 1, 19]), []), ((.istore 7, 2, []), []), ((.aload_n 0, 1, []), []), ((.dup, 1, []), []), ((.getfield 24, 3, [0, 0, 1, 19]), []), ((.iload 6, 2, []), []), ((.iadd, 1, []), []), ((.dup_x1, 1, []), []), ((.putfield 24, 3, [0, 0, 1, 19]), []), ((.istore 8, 2, []), []), ((.nop, 0, [0, 336017]), [])]
def b_J21_grow_145 : List (ev_I × List (Nat × Nat)) := [((.nop, 0, [1, 0, 1, 2, 3, 4, 6]), []), ((.iload 7, 2, []), []), ((.iload 8, 2, []), []), ((.if_icmp .ge 15, 3, [336036]), []), ((.aload 5, 2, []), []), ((.iload 7, 2, []), []), ((.aconst_null, 1, []), []), ((.aastore, 1, []), []), ((.iinc 7 1, 3, []), []), ((.goto (-16), 3, [336017]), [])]
def b_J21_grow_164 : List (ev_I × List (Nat × Nat)) := [((.nop, 0, [1, 0, 1, 2, 3, 4, 5, 6, 7, 8]), []), ((.return_, 1, []), [])]
def tb_J21_grow : List (Nat × List (ev_I × List (Nat × Nat))) := [(0, b_J21_grow_0), (18, b_J21_grow_18), (21, b_J21_grow_21), (41, b_J21_grow_41), (49, b_J21_grow_49), (96, b_J21_grow_96), (145, b_J21_grow_145), (164, b_J21_grow_164)]
def b_J21_addLast_0 : List (ev_I × List (Nat × Nat)) := [((.aload_n 1, 1, []), []), ((.ifnonnull 11, 3, [339980]), []), ((.new 65, 3, []), []), ((.dup, 1, []), []), ((.invokespecial 67, 3, []), []), ((.athrow, 1, []), [])]
def b_J21_addLast_12 : List (ev_I × List (Nat × Nat)) := [((.aload_n 0, 1, []), []), ((.getfield 3, 3, [0, 4, 0, 19]), []), ((.astore_n 2, 1, []), []), ((.aload_n 2, 1, []), []), ((.aload_n 0, 1, []), []), ((.getfield 20, 3, [0, 0, 2, 19]), []), ((.aload_n 1, 1, []), []), ((.aastore, 1, []), []), ((.aload_n 0, 1, []), []), ((.getfield 24, 3, [0, 0, 1, 19]), []), ((.aload_n 0, 1, []), []), ((.aload_n 0, 1, []), []), ((.getfield 20, 3, [0, 0, 2, 19]), []), ((.aload_n 2, 1, []), []), ((.arraylength, 1, []), []), ((.invokestatic 74, 3, [75, 2]), []), ((.dup_x1, 1, []), []), ((.putfield 20, 3, [0, 0, 2, 19]), []), ((.if_icmp .ne 8, 3, [340018]), []), ((.aload_n 0, 1, []), []), ((.iconst 1, 1, []), []), ((.invokevirtual 71, 3, [2, 19, 82]), []), ((.nop, 0, [0, 340018]), [])]
def b_J21_addLast_50 : List (ev_I × List (Nat × Nat)) := [((.nop, 0, [1, 0, 1, 2]), []), ((.return_, 1, []), [])]
def tb_J21_addLast : List (Nat × List (ev_I × List (Nat × Nat))) := [(0, b_J21_addLast_0), (12, b_J21_addLast_12), (50, b_J21_addLast_50)]
def b_X0_tells_0 : List (ev_I × List (Nat × Nat)) := [((.aload_n 0, 1, []), []), ((.getfield 41, 3, [0, 4, 5, 1]), []), ((.invokevirtual 155, 3, [1, 19, 73]), []), ((.bipush 20, 2, []), []), ((.if_icmp .ne 11, 3, [344084]), []), ((.aload_n 0, 1, []), []), ((.getfield 41, 3, [0, 4, 5, 1]), []), ((.invokevirtual 158, 3, [1, 19, 76]), []), ((.pop, 1, []), []), ((.nop, 0, [0, 344084]), [])]
def b_X0_tells_20 : List (ev_I × List (Nat × Nat)) := [((.aload_n 0, 1, []), []), ((.getfield 41, 3, [0, 4, 5, 1]), []), ((.new 162, 3, [9, 1]), []), ((.dup, 1, []), []), ((.aload_n 1, 1, []), []), ((.invokespecial 164, 3, [77, 2]), []), ((.invokevirtual 167, 3, [2, 19, 83]), []), ((.return_, 1, []), [])]
def tb_X0_tells : List (Nat × List (ev_I × List (Nat × Nat))) := [(0, b_X0_tells_0), (20, b_X0_tells_20)]
def b_X0_turns_0 : List (ev_I × List (Nat × Nat)) := [((.iload_n 1, 1, []), []), ((.i2l, 1, []), []), ((.lconst 0, 1, []), []), ((.ldc2_w 171, 3, [0, 0, 10]), []), ((.invokestatic 90, 3, [43, 3]), []), ((.ifCond .ne 6, 3, [348175]), []), ((.bipush (-2), 2, []), []), ((.ireturn, 1, []), [])]
def b_X0_turns_15 : List (ev_I × List (Nat × Nat)) := [((.aload_n 0, 1, []), []), ((.getfield 173, 3, [0, 0, 4, 1]), []), ((.istore_n 2, 1, []), []), ((.aload_n 0, 1, []), []), ((.iload_n 1, 1, []), []), ((.putfield 173, 3, [0, 0, 4, 1]), []), ((.aload_n 0, 1, []), []), ((.aload_n 0, 1, []), []), ((.iload_n 2, 1, []), []), ((.invokedynamic 176, 5, [1, 130, 2]), []), ((.invokevirtual 180, 3, [2, 1, 84]), []), ((.iload_n 2, 1, []), []), ((.ireturn, 1, []), [])]
def tb_X0_turns : List (Nat × List (ev_I × List (Nat × Nat))) := [(0, b_X0_turns_0), (15, b_X0_turns_15)]
def b_X3_logs_0 : List (ev_I × List (Nat × Nat)) := [((.aload_n 0, 1, []), []), ((.getfield 151, 3, [0, 0, 18, 2]), []), ((.bipush 20, 2, []), []), ((.if_icmp .ne 47, 3, [352309]), []), ((.bipush 6, 2, []), []), ((.istore 6, 2, []), []), ((.nop, 0, [0, 352269]), [])]
def b_X3_logs_13 : List (ev_I × List (Nat × Nat)) := [((.iload 6, 2, []), []), ((.bipush 120, 2, []), []), ((.if_icmp .ge 26, 3, [352299]), []), ((.aload_n 0, 1, []), []), ((.getfield 53, 3, [0, 4, 17, 2]), []), ((.iload 6, 2, []), []), ((.bipush 6, 2, []), []), ((.isub, 1, []), []), ((.aload_n 0, 1, []), []), ((.getfield 53, 3, [0, 4, 17, 2]), []), ((.iload 6, 2, []), []), ((.iaload, 1, []), []), ((.iastore, 1, []), []), ((.iinc 6 1, 3, []), []), ((.goto (-27), 3, [352269]), [])]
def b_X3_logs_43 : List (ev_I × List (Nat × Nat)) := [((.aload_n 0, 1, []), []), ((.dup, 1, []), []), ((.getfield 151, 3, [0, 0, 18, 2]), []), ((.iconst 1, 1, []), []), ((.isub, 1, []), []), ((.putfield 151, 3, [0, 0, 18, 2]), []), ((.nop, 0, [0, 352309]), [])]
def b_X3_logs_53 : List (ev_I × List (Nat × Nat)) := [((.nop, 0, [1, 6]), []), ((.aload_n 0, 1, []), []), ((.getfield 53, 3, [0, 4, 17, 2]), []), ((.bipush 6, 2, []), []), ((.aload_n 0, 1, []), []), ((.getfield 151, 3, [0, 0, 18, 2]), []), ((.imul, 1, []), []), ((.iload_n 1, 1, []), []), ((.iastore, 1, []), []), ((.aload_n 0, 1, []), []), ((.getfield 53, 3, [0, 4, 17, 2]), []), ((.bipush 6, 2, []), []), ((.aload_n 0, 1, []), []), ((.getfield 151, 3, [0, 0, 18, 2]), []), ((.imul, 1, []), []), ((.iconst 1, 1, []), []), ((.iadd, 1, []), []), ((.iload_n 2, 1, []), []), ((.iastore, 1, []), []), ((.aload_n 0, 1, []), []), ((.getfield 53, 3, [0, 4, 17, 2]), []), ((.bipush 6, 2, []), []), ((.aload_n 0, 1, []), []), ((.getfield 151, 3, [0, 0, 18, 2]), []), ((.imul, 1, []), []), ((.iconst 2, 1, []), []), ((.iadd, 1, []), []), ((.iload_n 3, 1, []), []), ((.iastore, 1, []), []), ((.aload_n 0, 1, []), []), ((.getfield 53, 3, [0, 4, 17, 2]), []), ((.bipush 6, 2, []), []), ((.aload_n 0, 1, []), []), ((.getfield 151, 3, [0, 0, 18, 2]), []), ((.imul, 1, []), []), ((.iconst 3, 1, []), []), ((.iadd, 1, []), []), ((.iload 4, 2, []), []), ((.iastore, 1, []), []), ((.aload_n 0, 1, []), []), ((.getfield 53, 3, [0, 4, 17, 2]), []), ((.bipush 6, 2, []), []), ((.aload_n 0, 1, []), []), ((.getfield 151, 3, [0, 0, 18, 2]), []), ((.imul, 1, []), []), ((.iconst 4, 1, []), []), ((.iadd, 1, []), []), ((.iload 5, 2, []), []), ((.iastore, 1, []), []), ((.aload_n 0, 1, []), []), ((.dup, 1, []), []), ((.getfield 151, 3, [0, 0, 18, 2]), []), ((.iconst 1, 1, []), []), ((.iadd, 1, []), []), ((.putfield 151, 3, [0, 0, 18, 2]), []), ((.return_, 1, []), [])]
def tb_X3_logs : List (Nat × List (ev_I × List (Nat × Nat))) := [(0, b_X3_logs_0), (13, b_X3_logs_13), (43, b_X3_logs_43), (53, b_X3_logs_53)]
def b_X3_turns_0 : List (ev_I × List (Nat × Nat)) := [((.iload_n 1, 1, []), []), ((.iconst 0, 1, []), []), ((.bipush 10, 2, []), []), ((.invokestatic 114, 3, [49, 3]), []), ((.ifCond .ne 6, 3, [356365]), []), ((.bipush (-2), 2, []), []), ((.ireturn, 1, []), [])]
def b_X3_turns_13 : List (ev_I × List (Nat × Nat)) := [((.aload_n 0, 1, []), []), ((.getfield 154, 3, [0, 0, 6, 2]), []), ((.istore_n 2, 1, []), []), ((.aload_n 0, 1, []), []), ((.iconst 0, 1, []), []), ((.iconst 0, 1, []), []), ((.aload_n 0, 1, []), []), ((.getfield 154, 3, [0, 0, 6, 2]), []), ((.iconst 0, 1, []), []), ((.iconst 0, 1, []), []), ((.invokevirtual 157, 3, [6, 2, 86]), []), ((.aload_n 0, 1, []), []), ((.iload_n 1, 1, []), []), ((.putfield 154, 3, [0, 0, 6, 2]), []), ((.iload_n 2, 1, []), []), ((.ireturn, 1, []), [])]
def tb_X3_turns : List (Nat × List (ev_I × List (Nat × Nat))) := [(0, b_X3_turns_0), (13, b_X3_turns_13)]
def b_X0_type_0 : List (ev_I × List (Nat × Nat)) := [((.iload_n 1, 1, []), []), ((.i2l, 1, []), []), ((.lconst 0, 1, []), []), ((.ldc2_w 182, 3, [0, 0, 255]), []), ((.invokestatic 90, 3, [43, 3]), []), ((.ifCond .ne 6, 3, [360463]), []), ((.bipush (-2), 2, []), []), ((.ireturn, 1, []), [])]
def b_X0_type_15 : List (ev_I × List (Nat × Nat)) := [((.aload_n 0, 1, []), []), ((.getfield 184, 3, [0, 0, 7, 1]), []), ((.iconst 5, 1, []), []), ((.if_icmp .ne 6, 3, [360474]), []), ((.bipush (-4), 2, []), []), ((.ireturn, 1, []), [])]
def b_X0_type_26 : List (ev_I × List (Nat × Nat)) := [((.aload_n 0, 1, []), []), ((.getfield 45, 3, [0, 4, 6, 1]), []), ((.aload_n 0, 1, []), []), ((.getfield 184, 3, [0, 0, 7, 1]), []), ((.iload_n 1, 1, []), []), ((.i2b, 1, []), []), ((.bastore, 1, []), []), ((.aload_n 0, 1, []), []), ((.dup, 1, []), []), ((.getfield 184, 3, [0, 0, 7, 1]), []), ((.iconst 1, 1, []), []), ((.iadd, 1, []), []), ((.putfield 184, 3, [0, 0, 7, 1]), []), ((.aload_n 0, 1, []), []), ((.getfield 184, 3, [0, 0, 7, 1]), []), ((.ireturn, 1, []), [])]
def tb_X0_type : List (Nat × List (ev_I × List (Nat × Nat))) := [(0, b_X0_type_0), (15, b_X0_type_15), (26, b_X0_type_26)]
def b_X3_type_0 : List (ev_I × List (Nat × Nat)) := [((.iload_n 1, 1, []), []), ((.iconst 0, 1, []), []), ((.sipush 255, 3, []), []), ((.invokestatic 114, 3, [49, 3]), []), ((.ifCond .ne 6, 3, [364558]), []), ((.bipush (-2), 2, []), []), ((.ireturn, 1, []), [])]
def b_X3_type_14 : List (ev_I × List (Nat × Nat)) := [((.aload_n 0, 1, []), []), ((.getfield 161, 3, [0, 0, 20, 2]), []), ((.iconst 5, 1, []), []), ((.if_icmp .ne 6, 3, [364569]), []), ((.bipush (-4), 2, []), []), ((.ireturn, 1, []), [])]
def b_X3_type_25 : List (ev_I × List (Nat × Nat)) := [((.aload_n 0, 1, []), []), ((.getfield 56, 3, [0, 4, 19, 2]), []), ((.aload_n 0, 1, []), []), ((.getfield 161, 3, [0, 0, 20, 2]), []), ((.iload_n 1, 1, []), []), ((.iastore, 1, []), []), ((.aload_n 0, 1, []), []), ((.dup, 1, []), []), ((.getfield 161, 3, [0, 0, 20, 2]), []), ((.iconst 1, 1, []), []), ((.iadd, 1, []), []), ((.putfield 161, 3, [0, 0, 20, 2]), []), ((.aload_n 0, 1, []), []), ((.getfield 161, 3, [0, 0, 20, 2]), []), ((.ireturn, 1, []), [])]
def tb_X3_type : List (Nat × List (ev_I × List (Nat × Nat))) := [(0, b_X3_type_0), (14, b_X3_type_14), (25, b_X3_type_25)]
def b_X0_wipe_0 : List (ev_I × List (Nat × Nat)) := [((.aload_n 0, 1, []), []), ((.getfield 184, 3, [0, 0, 7, 1]), []), ((.istore_n 1, 1, []), []), ((.aload_n 0, 1, []), []), ((.iconst 0, 1, []), []), ((.putfield 184, 3, [0, 0, 7, 1]), []), ((.iload_n 1, 1, []), []), ((.ireturn, 1, []), [])]
def tb_X0_wipe : List (Nat × List (ev_I × List (Nat × Nat))) := [(0, b_X0_wipe_0)]
def b_X3_wipe_0 : List (ev_I × List (Nat × Nat)) := [((.aload_n 0, 1, []), []), ((.getfield 161, 3, [0, 0, 20, 2]), []), ((.istore_n 1, 1, []), []), ((.aload_n 0, 1, []), []), ((.iconst 0, 1, []), []), ((.putfield 161, 3, [0, 0, 20, 2]), []), ((.iload_n 1, 1, []), []), ((.ireturn, 1, []), [])]
def tb_X3_wipe : List (Nat × List (ev_I × List (Nat × Nat))) := [(0, b_X3_wipe_0)]
def b_J31_init_0 : List (ev_I × List (Nat × Nat)) := [((.aload_n 0, 1, []), []), ((.invokespecial 3, 3, [0, 1]), []), ((.getstatic 18, 3, [0, 0, 1]), []), ((.ifCond .eq 18, 3, [376857]), []), ((.aload_n 0, 1, []), []), ((.iload_n 1, 1, []), []), ((.newarray .byte, 2, [45]), []), ((.putfield 15, 3, [0, 4, 0, 17]), []), ((.aload_n 0, 1, []), []), ((.iconst 0, 1, []), []), ((.putfield 22, 3, [0, 6, 1, 17]), []), ((.goto 16, 3, [376870]), [])]
def b_J31_init_25 : List (ev_I × List (Nat × Nat)) := [((.aload_n 0, 1, []), []), ((.iload_n 1, 1, []), []), ((.invokestatic 26, 3, []), []), ((.putfield 15, 3, [0, 4, 0, 17]), []), ((.aload_n 0, 1, []), []), ((.iconst 1, 1, []), []), ((.putfield 22, 3, [0, 6, 1, 17]), []), ((.nop, 0, [0, 376870]), [])]
def b_J31_init_38 : List (ev_I × List (Nat × Nat)) := [((.nop, 0, [1, 0, 1]), []), ((.return_, 1, []), [])]
def tb_J31_init : List (Nat × List (ev_I × List (Nat × Nat))) := [(0, b_J31_init_0), (25, b_J31_init_25), (38, b_J31_init_38)]
def b_J32_init_0 : List (ev_I × List (Nat × Nat)) := [((.aload_n 0, 1, []), []), ((.iload_n 1, 1, []), []), ((.invokespecial 1, 3, [92, 2]), []), ((.return_, 1, []), [])]
def tb_J32_init : List (Nat × List (ev_I × List (Nat × Nat))) := [(0, b_J32_init_0)]
def b_J8_max_0 : List (ev_I × List (Nat × Nat)) := [((.iload_n 0, 1, []), []), ((.iload_n 1, 1, []), []), ((.if_icmp .lt 7, 3, [385033]), []), ((.iload_n 0, 1, []), []), ((.goto 4, 3, [385034]), [])]
def b_J8_max_9 : List (ev_I × List (Nat × Nat)) := [((.iload_n 1, 1, []), []), ((.nop, 0, [0, 385034]), [])]
def b_J8_max_10 : List (ev_I × List (Nat × Nat)) := [((.nop, 0, [1, 0, 1]), []), ((.ireturn, 1, []), [])]
def tb_J8_max : List (Nat × List (ev_I × List (Nat × Nat))) := [(0, b_J8_max_0), (9, b_J8_max_9), (10, b_J8_max_10)]
def b_J4_hugeLength_0 : List (ev_I × List (Nat × Nat)) := [((.iload_n 0, 1, []), []), ((.iload_n 1, 1, []), []), ((.iadd, 1, []), []), ((.istore_n 2, 1, []), []), ((.iload_n 2, 1, []), []), ((.ifCond .ge 44, 3, [389169]), []), ((.new 204, 3, []), []), ((.dup, 1, []), []), ((.new 89, 3, []), []), ((.dup, 1, []), []), ((.invokespecial 91, 3, []), []), ((.ldc 206, 2, []), []), ((.invokevirtual 94, 3, []), []), ((.iload_n 0, 1, []), []), ((.invokevirtual 98, 3, []), []), ((.ldc 208, 2, []), []), ((.invokevirtual 94, 3, []), []), ((.iload_n 1, 1, []), []), ((.invokevirtual 98, 3, []), []), ((.ldc 210, 2, []), []), ((.invokevirtual 94, 3, []), []), ((.invokevirtual 101, 3, []), []), ((.invokespecial 212, 3, []), []), ((.athrow, 1, []), [])]
def b_J4_hugeLength_49 : List (ev_I × List (Nat × Nat)) := [((.iload_n 2, 1, []), []), ((.ldc 200, 2, [0, 0, 2147483639]), []), ((.if_icmp .gt 6, 3, [389178]), []), ((.ldc 200, 2, [0, 0, 2147483639]), []), ((.ireturn, 1, []), [])]
def b_J4_hugeLength_58 : List (ev_I × List (Nat × Nat)) := [((.iload_n 2, 1, []), []), ((.ireturn, 1, []), [])]
def tb_J4_hugeLength : List (Nat × List (ev_I × List (Nat × Nat))) := [(0, b_J4_hugeLength_0), (49, b_J4_hugeLength_49), (58, b_J4_hugeLength_58)]
def b_J4_newLength_0 : List (ev_I × List (Nat × Nat)) := [((.iload_n 0, 1, []), []), ((.iload_n 1, 1, []), []), ((.iload_n 2, 1, []), []), ((.invokestatic 194, 3, [94, 2]), []), ((.iadd, 1, []), []), ((.istore_n 3, 1, []), []), ((.iconst 0, 1, []), []), ((.iload_n 3, 1, []), []), ((.if_icmp .ge 11, 3, [393237]), []), ((.iload_n 3, 1, []), []), ((.ldc 200, 2, [0, 0, 2147483639]), []), ((.if_icmp .gt 5, 3, [393237]), []), ((.iload_n 3, 1, []), []), ((.ireturn, 1, []), [])]
def b_J4_newLength_21 : List (ev_I × List (Nat × Nat)) := [((.nop, 0, [1, 2, 3]), []), ((.iload_n 0, 1, []), []), ((.iload_n 1, 1, []), []), ((.invokestatic 201, 3, [95, 2]), []), ((.ireturn, 1, []), [])]
def tb_J4_newLength : List (Nat × List (ev_I × List (Nat × Nat))) := [(0, b_J4_newLength_0), (21, b_J4_newLength_21)]
def b_J31_newCapacity_0 : List (ev_I × List (Nat × Nat)) := [((.aload_n 0, 1, []), []), ((.getfield 15, 3, [0, 4, 0, 17]), []), ((.arraylength, 1, []), []), ((.istore_n 2, 1, []), []), ((.iload_n 1, 1, []), []), ((.aload_n 0, 1, []), []), ((.getfield 22, 3, [0, 6, 1, 17]), []), ((.ishl, 1, []), []), ((.istore_n 3, 1, []), []), ((.iload_n 3, 1, []), []), ((.iload_n 2, 1, []), []), ((.isub, 1, []), []), ((.istore 4, 2, []), []), ((.iload_n 2, 1, []), []), ((.iload 4, 2, []), []), ((.iload_n 2, 1, []), []), ((.iconst 2, 1, []), []), ((.aload_n 0, 1, []), []), ((.getfield 22, 3, [0, 6, 1, 17]), []), ((.ishl, 1, []), []), ((.iadd, 1, []), []), ((.invokestatic 114, 3, [96, 3]), []), ((.istore 5, 2, []), []), ((.iload 5, 2, []), []), ((.ldc 39, 2, [0, 0, 2147483647]), []), ((.if_icmp .ne 13, 3, [397363]), []), ((.new 120, 3, []), []), ((.dup, 1, []), []), ((.ldc 122, 2, []), []), ((.invokespecial 124, 3, []), []), ((.athrow, 1, []), [])]
def b_J31_newCapacity_51 : List (ev_I × List (Nat × Nat)) := [((.iload 5, 2, []), []), ((.aload_n 0, 1, []), []), ((.getfield 22, 3, [0, 6, 1, 17]), []), ((.ishr, 1, []), []), ((.ireturn, 1, []), [])]
def tb_J31_newCapacity : List (Nat × List (ev_I × List (Nat × Nat))) := [(0, b_J31_newCapacity_0), (51, b_J31_newCapacity_51)]
def b_J30_copyOf_3_0 : List (ev_I × List (Nat × Nat)) := [((.iload_n 1, 1, []), []), ((.aload_n 0, 1, []), []), ((.arraylength, 1, []), []), ((.if_icmp .ne 11, 3, [401422]), []), ((.aload_n 0, 1, []), []), ((.invokevirtual 310, 3, []), []), ((.checkcast 311, 3, [1, 45]), []), ((.areturn, 1, []), [])]
def b_J30_copyOf_3_14 : List (ev_I × List (Nat × Nat)) := [((.iload_n 1, 1, []), []), ((.newarray .byte, 2, [45]), []), ((.astore_n 2, 1, []), []), ((.aload_n 0, 1, []), []), ((.iconst 0, 1, []), []), ((.aload_n 2, 1, []), []), ((.iconst 0, 1, []), []), ((.aload_n 0, 1, []), []), ((.arraylength, 1, []), []), ((.iload_n 1, 1, []), []), ((.invokestatic 304, 3, [79, 2]), []), ((.invokestatic 150, 3, [9000, 3]), []), ((.aload_n 2, 1, []), []), ((.areturn, 1, []), [])]
def tb_J30_copyOf_3 : List (Nat × List (ev_I × List (Nat × Nat))) := [(0, b_J30_copyOf_3_0), (14, b_J30_copyOf_3_14)]
def b_J31_ensureCapacityInternal_0 : List (ev_I × List (Nat × Nat)) := [((.aload_n 0, 1, []), []), ((.getfield 15, 3, [0, 4, 0, 17]), []), ((.arraylength, 1, []), []), ((.aload_n 0, 1, []), []), ((.getfield 22, 3, [0, 6, 1, 17]), []), ((.ishr, 1, []), []), ((.istore_n 2, 1, []), []), ((.iload_n 1, 1, []), []), ((.iload_n 2, 1, []), []), ((.isub, 1, []), []), ((.ifCond .le 24, 3, [405542]), []), ((.aload_n 0, 1, []), []), ((.aload_n 0, 1, []), []), ((.getfield 15, 3, [0, 4, 0, 17]), []), ((.aload_n 0, 1, []), []), ((.iload_n 1, 1, []), []), ((.invokevirtual 104, 3, [2, 17, 97]), []), ((.aload_n 0, 1, []), []), ((.getfield 22, 3, [0, 6, 1, 17]), []), ((.ishl, 1, []), []), ((.invokestatic 108, 3, [98, 2]), []), ((.putfield 15, 3, [0, 4, 0, 17]), []), ((.nop, 0, [0, 405542]), [])]
def b_J31_ensureCapacityInternal_38 : List (ev_I × List (Nat × Nat)) := [((.nop, 0, [1, 0, 1, 2]), []), ((.return_, 1, []), [])]
def tb_J31_ensureCapacityInternal : List (Nat × List (ev_I × List (Nat × Nat))) := [(0, b_J31_ensureCapacityInternal_0), (38, b_J31_ensureCapacityInternal_38)]
def b_J31_isLatin1_0 : List (ev_I × List (Nat × Nat)) := [((.getstatic 18, 3, [0, 0, 1]), []), ((.ifCond .eq 14, 3, [409617]), []), ((.aload_n 0, 1, []), []), ((.getfield 22, 3, [0, 6, 1, 17]), []), ((.ifCond .ne 7, 3, [409617]), []), ((.iconst 1, 1, []), []), ((.goto 4, 3, [409618]), [])]
def b_J31_isLatin1_17 : List (ev_I × List (Nat × Nat)) := [((.nop, 0, [1, 0]), []), ((.iconst 0, 1, []), []), ((.nop, 0, [0, 409618]), [])]
def b_J31_isLatin1_18 : List (ev_I × List (Nat × Nat)) := [((.nop, 0, [1, 0]), []), ((.ireturn, 1, [5]), [])]
def tb_J31_isLatin1 : List (Nat × List (ev_I × List (Nat × Nat))) := [(0, b_J31_isLatin1_0), (17, b_J31_isLatin1_17), (18, b_J31_isLatin1_18)]
def b_J3_canEncode_0 : List (ev_I × List (Nat × Nat)) := [((.iload_n 0, 1, []), []), ((.sipush 255, 3, []), []), ((.if_icmp .gt 7, 3, [413707]), []), ((.iconst 1, 1, []), []), ((.goto 4, 3, [413708]), [])]
def b_J3_canEncode_11 : List (ev_I × List (Nat × Nat)) := [((.iconst 0, 1, []), []), ((.nop, 0, [0, 413708]), [])]
def b_J3_canEncode_12 : List (ev_I × List (Nat × Nat)) := [((.nop, 0, [1, 0]), []), ((.ireturn, 1, [5]), [])]
def tb_J3_canEncode : List (Nat × List (ev_I × List (Nat × Nat))) := [(0, b_J3_canEncode_0), (11, b_J3_canEncode_11), (12, b_J3_canEncode_12)]
def b_J31_append_0 : List (ev_I × List (Nat × Nat)) := [((.aload_n 0, 1, []), []), ((.aload_n 0, 1, []), []), ((.getfield 79, 3, [0, 0, 3, 17]), []), ((.iconst 1, 1, []), []), ((.iadd, 1, []), []), ((.invokevirtual 100, 3, [2, 17, 99]), []), ((.aload_n 0, 1, []), []), ((.invokevirtual 83, 3, [1, 17, 100]), []), ((.ifCond .eq 31, 3, [417837]), []), ((.iload_n 1, 1, []), []), ((.invokestatic 191, 3, [101, 1]), []), ((.ifCond .eq 24, 3, [417837]), []), ((.aload_n 0, 1, []), []), ((.getfield 15, 3, [0, 4, 0, 17]), []), ((.aload_n 0, 1, []), []), ((.dup, 1, []), []), ((.getfield 79, 3, [0, 0, 3, 17]), []), ((.dup_x1, 1, []), []), ((.iconst 1, 1, []), []), ((.iadd, 1, []), []), ((.putfield 79, 3, [0, 0, 3, 17]), []), ((.iload_n 1, 1, []), []), ((.i2b, 1, []), []), ((.bastore, 1, []), []), ((.goto 33, 3, [417867]), [])]
def b_J31_append_45 : List (ev_I × List (Nat × Nat)) := [((.aload_n 0, 1, []), []), ((.invokevirtual 83, 3, [1, 17, 100]), []), ((.ifCond .eq 7, 3, [417848]), []), ((.aload_n 0, 1, []), []), ((.invokevirtual 195, 3, []), []), ((.nop, 0, [0, 417848]), [])]
def b_J31_append_56 : List (ev_I × List (Nat × Nat)) := [((.aload_n 0, 1, []), []), ((.getfield 15, 3, [0, 4, 0, 17]), []), ((.aload_n 0, 1, []), []), ((.dup, 1, []), []), ((.getfield 79, 3, [0, 0, 3, 17]), []), ((.dup_x1, 1, []), []), ((.iconst 1, 1, []), []), ((.iadd, 1, []), []), ((.putfield 79, 3, [0, 0, 3, 17]), []), ((.iload_n 1, 1, []), []), ((.invokestatic 197, 3, []), []), ((.nop, 0, [0, 417867]), [])]
def b_J31_append_75 : List (ev_I × List (Nat × Nat)) := [((.nop, 0, [1, 1]), []), ((.aload_n 0, 1, []), []), ((.areturn, 1, []), [])]
def tb_J31_append : List (Nat × List (ev_I × List (Nat × Nat))) := [(0, b_J31_append_0), (45, b_J31_append_45), (56, b_J31_append_56), (75, b_J31_append_75)]
def b_J32_append_0 : List (ev_I × List (Nat × Nat)) := [((.aload_n 0, 1, []), []), ((.iload_n 1, 1, []), []), ((.invokespecial 50, 3, [102, 2, 17]), []), ((.pop, 1, []), []), ((.aload_n 0, 1, []), []), ((.areturn, 1, []), [])]
def tb_J32_append : List (Nat × List (ev_I × List (Nat × Nat))) := [(0, b_J32_append_0)]
def b_J31_getValue_0 : List (ev_I × List (Nat × Nat)) := [((.aload_n 0, 1, []), []), ((.getfield 15, 3, [0, 4, 0, 17]), []), ((.areturn, 1, []), [])]
def tb_J31_getValue : List (Nat × List (ev_I × List (Nat × Nat))) := [(0, b_J31_getValue_0)]
def b_J31_length_0 : List (ev_I × List (Nat × Nat)) := [((.aload_n 0, 1, []), []), ((.getfield 79, 3, [0, 0, 3, 17]), []), ((.ireturn, 1, []), [])]
def tb_J31_length : List (Nat × List (ev_I × List (Nat × Nat))) := [(0, b_J31_length_0)]
def b_J32_length_0 : List (ev_I × List (Nat × Nat)) := [((.aload_n 0, 1, []), []), ((.invokespecial 343, 3, [105, 1, 17]), []), ((.ireturn, 1, []), [])]
def tb_J32_length : List (Nat × List (ev_I × List (Nat × Nat))) := [(0, b_J32_length_0)]
def b_J30_checkLength_0 : List (ev_I × List (Nat × Nat)) := [((.iload_n 1, 1, []), []), ((.iload_n 0, 1, []), []), ((.if_icmp .ge 35, 3, [438309]), []), ((.new 43, 3, []), []), ((.dup, 1, []), []), ((.new 45, 3, []), []), ((.dup, 1, []), []), ((.invokespecial 47, 3, []), []), ((.iload_n 0, 1, []), []), ((.invokevirtual 54, 3, []), []), ((.ldc_w 337, 3, []), []), ((.invokevirtual 50, 3, []), []), ((.iload_n 1, 1, []), []), ((.invokevirtual 54, 3, []), []), ((.invokevirtual 61, 3, []), []), ((.invokespecial 65, 3, []), []), ((.athrow, 1, []), [])]
def b_J30_checkLength_37 : List (ev_I × List (Nat × Nat)) := [((.return_, 1, []), [])]
def tb_J30_checkLength : List (Nat × List (ev_I × List (Nat × Nat))) := [(0, b_J30_checkLength_0), (37, b_J30_checkLength_37)]
def b_J30_copyOfRangeByte_0 : List (ev_I × List (Nat × Nat)) := [((.iload_n 1, 1, []), []), ((.iload_n 2, 1, []), []), ((.invokestatic 343, 3, [107, 2]), []), ((.iload_n 2, 1, []), []), ((.iload_n 1, 1, []), []), ((.isub, 1, []), []), ((.istore_n 3, 1, []), []), ((.iload_n 3, 1, []), []), ((.newarray .byte, 2, [45]), []), ((.astore 4, 2, []), []), ((.aload_n 0, 1, []), []), ((.iload_n 1, 1, []), []), ((.aload 4, 2, []), []), ((.iconst 0, 1, []), []), ((.aload_n 0, 1, []), []), ((.arraylength, 1, []), []), ((.iload_n 1, 1, []), []), ((.isub, 1, []), []), ((.iload_n 3, 1, []), []), ((.invokestatic 304, 3, [79, 2]), []), ((.invokestatic 150, 3, [9000, 3]), []), ((.aload 4, 2, []), []), ((.areturn, 1, []), [])]
def tb_J30_copyOfRangeByte : List (Nat × List (ev_I × List (Nat × Nat))) := [(0, b_J30_copyOfRangeByte_0)]
def b_J30_copyOfRange_0 : List (ev_I × List (Nat × Nat)) := [((.iload_n 1, 1, []), []), ((.ifCond .ne 9, 3, [446474]), []), ((.iload_n 2, 1, []), []), ((.aload_n 0, 1, []), []), ((.arraylength, 1, []), []), ((.if_icmp .eq 10, 3, [446481]), []), ((.nop, 0, [0, 446474]), [])]
def b_J30_copyOfRange_10 : List (ev_I × List (Nat × Nat)) := [((.aload_n 0, 1, []), []), ((.iload_n 1, 1, []), []), ((.iload_n 2, 1, []), []), ((.invokestatic 339, 3, [108, 3]), []), ((.areturn, 1, []), [])]
def b_J30_copyOfRange_17 : List (ev_I × List (Nat × Nat)) := [((.aload_n 0, 1, []), []), ((.invokevirtual 310, 3, []), []), ((.checkcast 311, 3, [1, 45]), []), ((.areturn, 1, []), [])]
def tb_J30_copyOfRange : List (Nat × List (ev_I × List (Nat × Nat))) := [(0, b_J30_copyOfRange_0), (10, b_J30_copyOfRange_10), (17, b_J30_copyOfRange_17)]
def b_J2_init_2_0 : List (ev_I × List (Nat × Nat)) := [((.aload_n 0, 1, []), []), ((.invokespecial 1, 3, [0, 1]), []), ((.aload_n 1, 1, []), []), ((.invokevirtual 552, 3, [1, 17, 104]), []), ((.astore_n 3, 1, []), []), ((.aload_n 1, 1, []), []), ((.invokevirtual 549, 3, [1, 17, 106]), []), ((.istore 4, 2, []), []), ((.aload_n 1, 1, []), []), ((.invokevirtual 1047, 3, [1, 17, 100]), []), ((.ifCond .eq 22, 3, [450601]), []), ((.aload_n 0, 1, []), []), ((.iconst 0, 1, []), []), ((.putfield 15, 3, [0, 6, 1, 15]), []), ((.aload_n 0, 1, []), []), ((.aload_n 3, 1, []), []), ((.iconst 0, 1, []), []), ((.iload 4, 2, []), []), ((.invokestatic 54, 3, [109, 3]), []), ((.putfield 9, 3, [0, 4, 0, 15]), []), ((.goto 59, 3, [450657]), [])]
def b_J2_init_2_41 : List (ev_I × List (Nat × Nat)) := [((.getstatic 38, 3, [0, 0, 1]), []), ((.ifCond .eq 35, 3, [450639]), []), ((.aload_n 1, 1, []), []), ((.getfield 1048, 3, [0, 5, 2, 17]), []), ((.ifCond .eq 28, 3, [450639]), []), ((.aload_n 0, 1, []), []), ((.aload_n 3, 1, []), []), ((.iconst 0, 1, []), []), ((.iload 4, 2, []), []), ((.invokestatic 1051, 3, []), []), ((.putfield 9, 3, [0, 4, 0, 15]), []), ((.aload_n 0, 1, []), []), ((.aload_n 0, 1, []), []), ((.getfield 9, 3, [0, 4, 0, 15, 16]), []), ((.iload 4, 2, []), []), ((.invokestatic 47, 3, []), []), ((.putfield 15, 3, [0, 6, 1, 15]), []), ((.return_, 1, []), [])]
def b_J2_init_2_79 : List (ev_I × List (Nat × Nat)) := [((.nop, 0, [1, 1, 2]), []), ((.aload_n 0, 1, []), []), ((.iconst 1, 1, []), []), ((.putfield 15, 3, [0, 6, 1, 15]), []), ((.aload_n 0, 1, []), []), ((.aload_n 3, 1, []), []), ((.iconst 0, 1, []), []), ((.iload 4, 2, []), []), ((.iconst 1, 1, []), []), ((.ishl, 1, []), []), ((.invokestatic 54, 3, [109, 3]), []), ((.putfield 9, 3, [0, 4, 0, 15]), []), ((.nop, 0, [0, 450657]), [])]
def b_J2_init_2_97 : List (ev_I × List (Nat × Nat)) := [((.nop, 0, [1, 0, 1, 2, 3, 4]), []), ((.return_, 1, []), [])]
def tb_J2_init_2 : List (Nat × List (ev_I × List (Nat × Nat))) := [(0, b_J2_init_2_0), (41, b_J2_init_2_41), (79, b_J2_init_2_79), (97, b_J2_init_2_97)]
def b_J2_init_0 : List (ev_I × List (Nat × Nat)) := [((.aload_n 0, 1, []), []), ((.aload_n 1, 1, []), []), ((.aconst_null, 1, []), []), ((.invokespecial 489, 3, [110, 3]), []), ((.return_, 1, []), [])]
def tb_J2_init : List (Nat × List (ev_I × List (Nat × Nat))) := [(0, b_J2_init_0)]
def b_J32_toString_0 : List (ev_I × List (Nat × Nat)) := [((.new 18, 3, [15, 4]), []), ((.dup, 1, []), []), ((.aload_n 0, 1, []), []), ((.invokespecial 137, 3, [111, 2]), []), ((.areturn, 1, []), [])]
def tb_J32_toString : List (Nat × List (ev_I × List (Nat × Nat))) := [(0, b_J32_toString_0)]
def b_J1_getNode_0 : List (ev_I × List (Nat × Nat)) := [((.aload_n 0, 1, []), []), ((.getfield 105, 3, [0, 4, 2, 11, 12]), []), ((.dup, 1, []), []), ((.astore_n 2, 1, []), []), ((.ifnull 142, 3, [462996]), []), ((.aload_n 2, 1, []), []), ((.arraylength, 1, []), []), ((.dup, 1, []), []), ((.istore 5, 2, []), []), ((.ifCond .le 134, 3, [462996]), []), ((.aload_n 2, 1, []), []), ((.iload 5, 2, []), []), ((.iconst 1, 1, []), []), ((.isub, 1, []), []), ((.aload_n 1, 1, []), []), ((.invokestatic 149, 3, [15, 1]), []), ((.dup, 1, []), []), ((.istore 6, 2, []), []), ((.iand, 1, []), []), ((.aaload, 1, []), []), ((.dup, 1, []), []), ((.astore_n 3, 1, []), []), ((.ifnull 115, 3, [462996]), []), ((.aload_n 3, 1, []), []), ((.getfield 168, 3, [0, 0, 0, 13, 14]), []), ((.iload 6, 2, []), []), ((.if_icmp .ne 29, 3, [462919]), []), ((.aload_n 3, 1, []), []), ((.getfield 170, 3, [0, 4, 1, 13, 14]), []), ((.dup, 1, []), []), ((.astore 7, 2, []), []), ((.aload_n 1, 1, []), []), ((.if_acmp .eq 16, 3, [462917]), []), ((.aload_n 1, 1, []), []), ((.ifnull 14, 3, [462919]), []), ((.aload_n 1, 1, []), []), ((.aload 7, 2, []), []), ((.invokevirtual 173, 3, [2, 3, 22, 10, 22, 1, 22, 4, 22, 9, 22, 15, 24, 16, 24, 6, 22, 5, 22, 7, 25, 8, 22, 2, 22]), []), ((.ifCond .eq 5, 3, [462919]), []), ((.nop, 0, [0, 462917]), [])]
def b_J1_getNode_69 : List (ev_I × List (Nat × Nat)) := [((.nop, 0, [1, 0, 1, 2, 4, 5, 6, 7]), []), ((.aload_n 3, 1, []), []), ((.areturn, 1, []), [])]
def b_J1_getNode_71 : List (ev_I × List (Nat × Nat)) := [((.nop, 0, [1, 0, 2, 4, 5, 7]), []), ((.aload_n 3, 1, []), []), ((.getfield 177, 3, [0, 4, 3, 13, 14]), []), ((.dup, 1, []), []), ((.astore 4, 2, []), []), ((.ifnull 70, 3, [462996]), []), ((.aload_n 3, 1, []), []), ((.instanceof 180, 3, [0, 13, 14]), []), ((.ifCond .eq 14, 3, [462947]), []), ((.aload_n 3, 1, []), []), ((.checkcast 180, 3, [0]), []), ((.iload 6, 2, []), []), ((.aload_n 1, 1, []), []), ((.invokevirtual 182, 3, []), []), ((.areturn, 1, []), [])]
def b_J1_getNode_99 : List (ev_I × List (Nat × Nat)) := [((.nop, 0, [1, 0, 2, 3, 5, 7]), []), ((.aload 4, 2, []), []), ((.getfield 168, 3, [0, 0, 0, 13, 14]), []), ((.iload 6, 2, []), []), ((.if_icmp .ne 31, 3, [462985]), []), ((.aload 4, 2, []), []), ((.getfield 170, 3, [0, 4, 1, 13, 14]), []), ((.dup, 1, []), []), ((.astore 7, 2, []), []), ((.aload_n 1, 1, []), []), ((.if_acmp .eq 16, 3, [462982]), []), ((.aload_n 1, 1, []), []), ((.ifnull 15, 3, [462985]), []), ((.aload_n 1, 1, []), []), ((.aload 7, 2, []), []), ((.invokevirtual 173, 3, [2, 3, 22, 10, 22, 1, 22, 4, 22, 9, 22, 15, 24, 16, 24, 6, 22, 5, 22, 7, 25, 8, 22, 2, 22]), []), ((.ifCond .eq 6, 3, [462985]), []), ((.nop, 0, [0, 462982]), [])]
def b_J1_getNode_134 : List (ev_I × List (Nat × Nat)) := [((.nop, 0, [1, 0, 1, 2, 3, 5, 6, 7]), []), ((.aload 4, 2, []), []), ((.areturn, 1, []), [])]
def b_J1_getNode_137 : List (ev_I × List (Nat × Nat)) := [((.nop, 0, [1, 0, 2, 3, 5, 7]), []), ((.aload 4, 2, []), []), ((.getfield 177, 3, [0, 4, 3, 13, 14]), []), ((.dup, 1, []), []), ((.astore 4, 2, []), []), ((.ifnonnull (-46), 3, [462947]), []), ((.nop, 0, [0, 462996]), [])]
def b_J1_getNode_148 : List (ev_I × List (Nat × Nat)) := [((.nop, 0, [1, 0, 1, 2, 3, 4, 5, 6, 7]), []), ((.aconst_null, 1, []), []), ((.areturn, 1, []), [])]
def tb_J1_getNode : List (Nat × List (ev_I × List (Nat × Nat))) := [(0, b_J1_getNode_0), (69, b_J1_getNode_69), (71, b_J1_getNode_71), (99, b_J1_getNode_99), (134, b_J1_getNode_134), (137, b_J1_getNode_137), (148, b_J1_getNode_148)]
def b_J1_get_0 : List (ev_I × List (Nat × Nat)) := [((.aload_n 0, 1, []), []), ((.aload_n 1, 1, []), []), ((.invokevirtual 158, 3, [2, 11, 113, 12, 113]), []), ((.dup, 1, []), []), ((.astore_n 2, 1, []), []), ((.ifnonnull 7, 3, [466958]), []), ((.aconst_null, 1, []), []), ((.goto 7, 3, [466962]), [])]
def b_J1_get_14 : List (ev_I × List (Nat × Nat)) := [((.aload_n 2, 1, []), []), ((.getfield 162, 3, [0, 4, 2, 13, 14]), []), ((.nop, 0, [0, 466962]), [])]
def b_J1_get_18 : List (ev_I × List (Nat × Nat)) := [((.nop, 0, [1, 0, 1, 2]), []), ((.areturn, 1, []), [])]
def tb_J1_get : List (Nat × List (ev_I × List (Nat × Nat))) := [(0, b_J1_get_0), (14, b_J1_get_14), (18, b_J1_get_18)]
def b_J34_get_0 : List (ev_I × List (Nat × Nat)) := [((.aload_n 0, 1, []), []), ((.aload_n 1, 1, []), []), ((.invokevirtual 99, 3, [2, 12, 113]), []), ((.dup, 1, []), []), ((.astore_n 2, 1, []), []), ((.ifnonnull 5, 3, [471052]), []), ((.aconst_null, 1, []), []), ((.areturn, 1, []), [])]
def b_J34_get_12 : List (ev_I × List (Nat × Nat)) := [((.aload_n 0, 1, []), []), ((.getfield 64, 3, [0, 5, 10, 12]), []), ((.ifCond .eq 8, 3, [471064]), []), ((.aload_n 0, 1, []), []), ((.aload_n 2, 1, []), []), ((.invokevirtual 103, 3, [2, 12, 28]), []), ((.nop, 0, [0, 471064]), [])]
def b_J34_get_24 : List (ev_I × List (Nat × Nat)) := [((.nop, 0, [1, 0, 1]), []), ((.aload_n 2, 1, []), []), ((.getfield 107, 3, [0, 4, 2, 13, 14]), []), ((.areturn, 1, []), [])]
def tb_J34_get : List (Nat × List (ev_I × List (Nat × Nat))) := [(0, b_J34_get_0), (12, b_J34_get_12), (24, b_J34_get_24)]
def b_X0_named_0 : List (ev_I × List (Nat × Nat)) := [((.new 187, 3, [17, 4]), []), ((.dup, 1, []), []), ((.iconst 5, 1, []), []), ((.invokespecial 189, 3, [93, 2]), []), ((.astore_n 1, 1, []), []), ((.iconst 0, 1, []), []), ((.istore_n 2, 1, []), []), ((.nop, 0, [0, 475147]), [])]
def b_X0_named_11 : List (ev_I × List (Nat × Nat)) := [((.iload_n 2, 1, []), []), ((.aload_n 0, 1, []), []), ((.getfield 184, 3, [0, 0, 7, 1]), []), ((.if_icmp .ge 35, 3, [475187]), []), ((.aload_n 1, 1, []), []), ((.aload_n 0, 1, []), []), ((.getfield 45, 3, [0, 4, 6, 1]), []), ((.iload_n 2, 1, []), []), ((.baload, 1, []), []), ((.ifCond .le 13, 3, [475175]), []), ((.aload_n 0, 1, []), []), ((.getfield 45, 3, [0, 4, 6, 1]), []), ((.iload_n 2, 1, []), []), ((.baload, 1, []), []), ((.i2c, 1, []), []), ((.goto 5, 3, [475177]), [])]
def b_X0_named_39 : List (ev_I × List (Nat × Nat)) := [((.bipush 63, 2, []), []), ((.nop, 0, [0, 475177]), [])]
def b_X0_named_41 : List (ev_I × List (Nat × Nat)) := [((.invokevirtual 190, 3, [2, 17, 103]), []), ((.pop, 1, []), []), ((.iinc 2 1, 3, []), []), ((.goto (-37), 3, [475147]), [])]
def b_X0_named_51 : List (ev_I × List (Nat × Nat)) := [((.aload_n 0, 1, []), []), ((.getfield 17, 3, [0, 4, 1, 1]), []), ((.aload_n 1, 1, []), []), ((.invokevirtual 194, 3, [1, 17, 112]), []), ((.invokevirtual 198, 3, [2, 11, 114, 12, 115]), []), ((.checkcast 12, 3, [1, 3]), []), ((.areturn, 1, []), [])]
def tb_X0_named : List (Nat × List (ev_I × List (Nat × Nat))) := [(0, b_X0_named_0), (11, b_X0_named_11), (39, b_X0_named_39), (41, b_X0_named_41), (51, b_X0_named_51)]
def b_J20_size_0 : List (ev_I × List (Nat × Nat)) := [((.aload_n 0, 1, []), []), ((.getfield 48, 3, [0, 0, 2, 18]), []), ((.ireturn, 1, []), [])]
def tb_J20_size : List (Nat × List (ev_I × List (Nat × Nat))) := [(0, b_J20_size_0)]
def b_X7_init_0 : List (ev_I × List (Nat × Nat)) := [((.aload_n 0, 1, []), []), ((.invokespecial 1, 3, [0, 1]), []), ((.aload_n 0, 1, []), []), ((.invokedynamic 7, 5, [0, 43]), []), ((.putfield 11, 3, [0, 4, 4, 6]), []), ((.aload_n 0, 1, []), []), ((.iload_n 1, 1, []), []), ((.putfield 17, 3, [0, 0, 0, 6]), []), ((.return_, 1, []), [])]
def tb_X7_init : List (Nat × List (ev_I × List (Nat × Nat))) := [(0, b_X7_init_0)]
def b_X6_init_0 : List (ev_I × List (Nat × Nat)) := [((.aload_n 0, 1, []), []), ((.aload_n 1, 1, []), []), ((.putfield 3, 3, [0, 4, 7, 5]), []), ((.aload_n 0, 1, []), []), ((.invokespecial 9, 3, [0, 1]), []), ((.aload_n 0, 1, []), []), ((.iconst 3, 1, []), []), ((.anewarray 15, 3, [52]), []), ((.dup, 1, []), []), ((.iconst 0, 1, []), []), ((.new 15, 3, [6, 5]), []), ((.dup, 1, []), []), ((.iconst 0, 1, []), []), ((.invokespecial 17, 3, [118, 2]), []), ((.aastore, 1, []), []), ((.dup, 1, []), []), ((.iconst 1, 1, []), []), ((.new 15, 3, [6, 5]), []), ((.dup, 1, []), []), ((.iconst (-1), 1, []), []), ((.invokespecial 17, 3, [118, 2]), []), ((.aastore, 1, []), []), ((.dup, 1, []), []), ((.iconst 2, 1, []), []), ((.new 15, 3, [6, 5]), []), ((.dup, 1, []), []), ((.iconst (-1), 1, []), []), ((.invokespecial 17, 3, [118, 2]), []), ((.aastore, 1, []), []), ((.putfield 20, 3, [0, 4, 2, 5]), []), ((.aload_n 0, 1, []), []), ((.iconst 1, 1, []), []), ((.putfield 24, 3, [0, 0, 3, 5]), []), ((.aload_n 0, 1, []), []), ((.iconst (-1), 1, []), []), ((.putfield 28, 3, [0, 0, 5, 5]), []), ((.aload_n 0, 1, []), []), ((.invokedynamic 31, 5, [0, 44]), []), ((.putfield 35, 3, [0, 4, 6, 5]), []), ((.aload_n 0, 1, []), []), ((.aload_n 2, 1, []), []), ((.putfield 39, 3, [0, 4, 0, 5]), []), ((.aload_n 0, 1, []), []), ((.iload_n 3, 1, []), []), ((.putfield 43, 3, [0, 0, 1, 5]), []), ((.return_, 1, []), [])]
def tb_X6_init : List (Nat × List (ev_I × List (Nat × Nat))) := [(0, b_X6_init_0)]
def b_J20_grow_2_0 : List (ev_I × List (Nat × Nat)) := [((.aload_n 0, 1, []), []), ((.getfield 9, 3, [0, 4, 1, 18]), []), ((.arraylength, 1, []), []), ((.istore_n 2, 1, []), []), ((.iload_n 2, 1, []), []), ((.ifCond .gt 13, 3, [491540]), []), ((.aload_n 0, 1, []), []), ((.getfield 9, 3, [0, 4, 1, 18]), []), ((.getstatic 39, 3, [2, 47]), []), ((.if_acmp .eq 28, 3, [491565]), []), ((.nop, 0, [0, 491540]), [])]
def b_J20_grow_2_20 : List (ev_I × List (Nat × Nat)) := [((.nop, 0, [1, 3]), []), ((.iload_n 2, 1, []), []), ((.iload_n 1, 1, []), []), ((.iload_n 2, 1, []), []), ((.isub, 1, []), []), ((.iload_n 2, 1, []), []), ((.iconst 1, 1, []), []), ((.ishr, 1, []), []), ((.invokestatic 73, 3, [96, 3]), []), ((.istore_n 3, 1, []), []), ((.aload_n 0, 1, []), []), ((.aload_n 0, 1, []), []), ((.getfield 9, 3, [0, 4, 1, 18]), []), ((.iload_n 3, 1, []), []), ((.invokestatic 66, 3, [81, 2]), []), ((.dup_x1, 1, []), []), ((.putfield 9, 3, [0, 4, 1, 18]), []), ((.areturn, 1, []), [])]
def b_J20_grow_2_45 : List (ev_I × List (Nat × Nat)) := [((.aload_n 0, 1, []), []), ((.bipush 10, 2, []), []), ((.iload_n 1, 1, []), []), ((.invokestatic 79, 3, [94, 2]), []), ((.anewarray 7, 3, [48]), []), ((.dup_x1, 1, []), []), ((.putfield 9, 3, [0, 4, 1, 18]), []), ((.areturn, 1, []), [])]
def tb_J20_grow_2 : List (Nat × List (ev_I × List (Nat × Nat))) := [(0, b_J20_grow_2_0), (20, b_J20_grow_2_20), (45, b_J20_grow_2_45)]
def b_J20_grow_0 : List (ev_I × List (Nat × Nat)) := [((.aload_n 0, 1, []), []), ((.aload_n 0, 1, []), []), ((.getfield 48, 3, [0, 0, 2, 18]), []), ((.iconst 1, 1, []), []), ((.iadd, 1, []), []), ((.invokevirtual 69, 3, [2, 18, 120]), []), ((.areturn, 1, []), [])]
def tb_J20_grow : List (Nat × List (ev_I × List (Nat × Nat))) := [(0, b_J20_grow_0)]
def b_J20_add_2_0 : List (ev_I × List (Nat × Nat)) := [((.iload_n 3, 1, []), []), ((.aload_n 2, 1, []), []), ((.arraylength, 1, []), []), ((.if_icmp .ne 8, 3, [499723]), []), ((.aload_n 0, 1, []), []), ((.invokevirtual 129, 3, [1, 18, 121]), []), ((.astore_n 2, 1, []), []), ((.nop, 0, [0, 499723]), [])]
def b_J20_add_2_11 : List (ev_I × List (Nat × Nat)) := [((.aload_n 2, 1, []), []), ((.iload_n 3, 1, []), []), ((.aload_n 1, 1, []), []), ((.aastore, 1, []), []), ((.aload_n 0, 1, []), []), ((.iload_n 3, 1, []), []), ((.iconst 1, 1, []), []), ((.iadd, 1, []), []), ((.putfield 48, 3, [0, 0, 2, 18]), []), ((.return_, 1, []), [])]
def tb_J20_add_2 : List (Nat × List (ev_I × List (Nat × Nat))) := [(0, b_J20_add_2_0), (11, b_J20_add_2_11)]
def b_J20_add_0 : List (ev_I × List (Nat × Nat)) := [((.aload_n 0, 1, []), []), ((.dup, 1, []), []), ((.getfield 63, 3, [0, 0, 0, 18]), []), ((.iconst 1, 1, []), []), ((.iadd, 1, []), []), ((.putfield 63, 3, [0, 0, 0, 18]), []), ((.aload_n 0, 1, []), []), ((.aload_n 1, 1, []), []), ((.aload_n 0, 1, []), []), ((.getfield 9, 3, [0, 4, 1, 18]), []), ((.aload_n 0, 1, []), []), ((.getfield 48, 3, [0, 0, 2, 18]), []), ((.invokevirtual 131, 3, [4, 18, 122]), []), ((.iconst 1, 1, []), []), ((.ireturn, 1, [5]), [])]
def tb_J20_add : List (Nat × List (ev_I × List (Nat × Nat))) := [(0, b_J20_add_0)]
def b_X0_statement_0 : List (ev_I × List (Nat × Nat)) := [((.iload_n 1, 1, []), []), ((.i2l, 1, []), []), ((.lconst 1, 1, []), []), ((.ldc2_w 100, 3, [0, 0, 5]), []), ((.invokestatic 90, 3, [43, 3]), []), ((.ifCond .ne 6, 3, [507919]), []), ((.bipush (-2), 2, []), []), ((.ireturn, 1, []), [])]
def b_X0_statement_15 : List (ev_I × List (Nat × Nat)) := [((.aload_n 0, 1, []), []), ((.invokevirtual 204, 3, [1, 1, 116]), []), ((.astore_n 2, 1, []), []), ((.aload_n 2, 1, []), []), ((.ifnonnull 6, 3, [507931]), []), ((.bipush (-3), 2, []), []), ((.ireturn, 1, []), [])]
def b_X0_statement_27 : List (ev_I × List (Nat × Nat)) := [((.aload_n 0, 1, []), []), ((.getfield 34, 3, [0, 4, 3, 1]), []), ((.invokevirtual 208, 3, [1, 18, 117]), []), ((.iconst 5, 1, []), []), ((.if_icmp .ne 6, 3, [507945]), []), ((.bipush (-4), 2, []), []), ((.ireturn, 1, []), [])]
def b_X0_statement_41 : List (ev_I × List (Nat × Nat)) := [((.aload_n 0, 1, []), []), ((.getfield 34, 3, [0, 4, 3, 1]), []), ((.new 209, 3, [5, 8]), []), ((.dup, 1, []), []), ((.aload_n 0, 1, []), []), ((.aload_n 2, 1, []), []), ((.iload_n 1, 1, []), []), ((.invokespecial 211, 3, [119, 4]), []), ((.invokevirtual 214, 3, [2, 18, 123]), []), ((.pop, 1, []), []), ((.aload_n 0, 1, []), []), ((.iconst 0, 1, []), []), ((.putfield 184, 3, [0, 0, 7, 1]), []), ((.aload_n 0, 1, []), []), ((.aload_n 0, 1, []), []), ((.invokedynamic 218, 5, [1, 133, 1]), []), ((.invokevirtual 180, 3, [2, 1, 84]), []), ((.aload_n 0, 1, []), []), ((.getfield 34, 3, [0, 4, 3, 1]), []), ((.invokevirtual 208, 3, [1, 18, 117]), []), ((.iconst 1, 1, []), []), ((.isub, 1, []), []), ((.ireturn, 1, []), [])]
def tb_X0_statement : List (Nat × List (ev_I × List (Nat × Nat))) := [(0, b_X0_statement_0), (15, b_X0_statement_15), (27, b_X0_statement_27), (41, b_X0_statement_41)]
def b_X3_isTyped_0 : List (ev_I × List (Nat × Nat)) := [((.iload 5, 2, []), []), ((.ifCond .le 7, 3, [512009]), []), ((.iconst 5, 1, []), []), ((.goto 21, 3, [512027]), [])]
def b_X3_isTyped_9 : List (ev_I × List (Nat × Nat)) := [((.iload 4, 2, []), []), ((.ifCond .le 7, 3, [512018]), []), ((.iconst 4, 1, []), []), ((.goto 12, 3, [512027]), [])]
def b_X3_isTyped_18 : List (ev_I × List (Nat × Nat)) := [((.iload_n 3, 1, []), []), ((.ifCond .le 7, 3, [512026]), []), ((.iconst 3, 1, []), []), ((.goto 4, 3, [512027]), [])]
def b_X3_isTyped_26 : List (ev_I × List (Nat × Nat)) := [((.iconst 2, 1, []), []), ((.nop, 0, [0, 512027]), [])]
def b_X3_isTyped_27 : List (ev_I × List (Nat × Nat)) := [((.nop, 0, [1, 6, 7]), []), ((.istore 6, 2, []), []), ((.aload_n 0, 1, []), []), ((.getfield 161, 3, [0, 0, 20, 2]), []), ((.iload 6, 2, []), []), ((.if_icmp .ne 27, 3, [512062]), []), ((.aload_n 0, 1, []), []), ((.getfield 56, 3, [0, 4, 19, 2]), []), ((.iconst 0, 1, []), []), ((.iaload, 1, []), []), ((.iload_n 1, 1, []), []), ((.if_icmp .ne 17, 3, [512062]), []), ((.aload_n 0, 1, []), []), ((.getfield 56, 3, [0, 4, 19, 2]), []), ((.iconst 1, 1, []), []), ((.iaload, 1, []), []), ((.iload_n 2, 1, []), []), ((.if_icmp .ne 7, 3, [512062]), []), ((.iconst 1, 1, []), []), ((.goto 4, 3, [512063]), [])]
def b_X3_isTyped_62 : List (ev_I × List (Nat × Nat)) := [((.nop, 0, [1, 1, 2, 7]), []), ((.iconst 0, 1, []), []), ((.nop, 0, [0, 512063]), [])]
def b_X3_isTyped_63 : List (ev_I × List (Nat × Nat)) := [((.nop, 0, [1, 1, 2, 7]), []), ((.istore 7, 2, []), []), ((.iload 7, 2, []), []), ((.ifCond .eq 40, 3, [512107]), []), ((.iload 6, 2, []), []), ((.iconst 3, 1, []), []), ((.if_icmp .lt 13, 3, [512086]), []), ((.aload_n 0, 1, []), []), ((.getfield 56, 3, [0, 4, 19, 2]), []), ((.iconst 2, 1, []), []), ((.iaload, 1, []), []), ((.iload_n 3, 1, []), []), ((.if_icmp .ne 24, 3, [512107]), []), ((.nop, 0, [0, 512086]), [])]
def b_X3_isTyped_86 : List (ev_I × List (Nat × Nat)) := [((.nop, 0, [1, 1, 2, 3, 7]), []), ((.iload 6, 2, []), []), ((.iconst 4, 1, []), []), ((.if_icmp .lt 14, 3, [512103]), []), ((.aload_n 0, 1, []), []), ((.getfield 56, 3, [0, 4, 19, 2]), []), ((.iconst 3, 1, []), []), ((.iaload, 1, []), []), ((.iload 4, 2, []), []), ((.if_icmp .ne 7, 3, [512107]), []), ((.nop, 0, [0, 512103]), [])]
def b_X3_isTyped_103 : List (ev_I × List (Nat × Nat)) := [((.nop, 0, [1, 1, 2, 3, 4, 7]), []), ((.iconst 1, 1, []), []), ((.goto 4, 3, [512108]), [])]
def b_X3_isTyped_107 : List (ev_I × List (Nat × Nat)) := [((.nop, 0, [1, 1, 2, 3, 4, 7]), []), ((.iconst 0, 1, []), []), ((.nop, 0, [0, 512108]), [])]
def b_X3_isTyped_108 : List (ev_I × List (Nat × Nat)) := [((.nop, 0, [1, 1, 2, 3, 4, 7]), []), ((.istore 7, 2, []), []), ((.iload 7, 2, []), []), ((.ifCond .eq 24, 3, [512136]), []), ((.iload 6, 2, []), []), ((.iconst 5, 1, []), []), ((.if_icmp .lt 14, 3, [512132]), []), ((.aload_n 0, 1, []), []), ((.getfield 56, 3, [0, 4, 19, 2]), []), ((.iconst 4, 1, []), []), ((.iaload, 1, []), []), ((.iload 5, 2, []), []), ((.if_icmp .ne 7, 3, [512136]), []), ((.nop, 0, [0, 512132]), [])]
def b_X3_isTyped_132 : List (ev_I × List (Nat × Nat)) := [((.nop, 0, [1, 0, 1, 2, 3, 4, 5, 6, 7]), []), ((.iconst 1, 1, []), []), ((.goto 4, 3, [512137]), [])]
def b_X3_isTyped_136 : List (ev_I × List (Nat × Nat)) := [((.nop, 0, [1, 0, 1, 2, 3, 4, 5, 6, 7]), []), ((.iconst 0, 1, []), []), ((.nop, 0, [0, 512137]), [])]
def b_X3_isTyped_137 : List (ev_I × List (Nat × Nat)) := [((.nop, 0, [1, 0, 1, 2, 3, 4, 5, 6, 7]), []), ((.ireturn, 1, [5]), [])]
def tb_X3_isTyped : List (Nat × List (ev_I × List (Nat × Nat))) := [(0, b_X3_isTyped_0), (9, b_X3_isTyped_9), (18, b_X3_isTyped_18), (26, b_X3_isTyped_26), (27, b_X3_isTyped_27), (62, b_X3_isTyped_62), (63, b_X3_isTyped_63), (86, b_X3_isTyped_86), (103, b_X3_isTyped_103), (107, b_X3_isTyped_107), (108, b_X3_isTyped_108), (132, b_X3_isTyped_132), (136, b_X3_isTyped_136), (137, b_X3_isTyped_137)]
def b_X3_isName_0 : List (ev_I × List (Nat × Nat)) := [((.iload_n 1, 1, []), []), ((.tableswitch 221 0 11 #[63, 76, 89, 102, 115, 128, 141, 154, 166, 179, 193, 207], 63, [516318, 516160, 516173, 516186, 516199, 516212, 516225, 516238, 516251, 516263, 516276, 516290, 516304]), [])]
def b_X3_isName_64 : List (ev_I × List (Nat × Nat)) := [((.aload_n 0, 1, []), []), ((.bipush 97, 2, []), []), ((.bipush 100, 2, []), []), ((.bipush 100, 2, []), []), ((.iconst 0, 1, []), []), ((.iconst 0, 1, []), []), ((.invokevirtual 164, 3, [6, 2, 125]), []), ((.ireturn, 1, [5]), [])]
def b_X3_isName_77 : List (ev_I × List (Nat × Nat)) := [((.aload_n 0, 1, []), []), ((.bipush 115, 2, []), []), ((.bipush 117, 2, []), []), ((.bipush 98, 2, []), []), ((.iconst 0, 1, []), []), ((.iconst 0, 1, []), []), ((.invokevirtual 164, 3, [6, 2, 125]), []), ((.ireturn, 1, [5]), [])]
def b_X3_isName_90 : List (ev_I × List (Nat × Nat)) := [((.aload_n 0, 1, []), []), ((.bipush 109, 2, []), []), ((.bipush 117, 2, []), []), ((.bipush 108, 2, []), []), ((.iconst 0, 1, []), []), ((.iconst 0, 1, []), []), ((.invokevirtual 164, 3, [6, 2, 125]), []), ((.ireturn, 1, [5]), [])]
def b_X3_isName_103 : List (ev_I × List (Nat × Nat)) := [((.aload_n 0, 1, []), []), ((.bipush 114, 2, []), []), ((.bipush 101, 2, []), []), ((.bipush 109, 2, []), []), ((.iconst 0, 1, []), []), ((.iconst 0, 1, []), []), ((.invokevirtual 164, 3, [6, 2, 125]), []), ((.ireturn, 1, [5]), [])]
def b_X3_isName_116 : List (ev_I × List (Nat × Nat)) := [((.aload_n 0, 1, []), []), ((.bipush 109, 2, []), []), ((.bipush 97, 2, []), []), ((.bipush 120, 2, []), []), ((.iconst 0, 1, []), []), ((.iconst 0, 1, []), []), ((.invokevirtual 164, 3, [6, 2, 125]), []), ((.ireturn, 1, [5]), [])]
def b_X3_isName_129 : List (ev_I × List (Nat × Nat)) := [((.aload_n 0, 1, []), []), ((.bipush 109, 2, []), []), ((.bipush 105, 2, []), []), ((.bipush 110, 2, []), []), ((.iconst 0, 1, []), []), ((.iconst 0, 1, []), []), ((.invokevirtual 164, 3, [6, 2, 125]), []), ((.ireturn, 1, [5]), [])]
def b_X3_isName_142 : List (ev_I × List (Nat × Nat)) := [((.aload_n 0, 1, []), []), ((.bipush 97, 2, []), []), ((.bipush 110, 2, []), []), ((.bipush 100, 2, []), []), ((.iconst 0, 1, []), []), ((.iconst 0, 1, []), []), ((.invokevirtual 164, 3, [6, 2, 125]), []), ((.ireturn, 1, [5]), [])]
def b_X3_isName_155 : List (ev_I × List (Nat × Nat)) := [((.aload_n 0, 1, []), []), ((.bipush 111, 2, []), []), ((.bipush 114, 2, []), []), ((.iconst 0, 1, []), []), ((.iconst 0, 1, []), []), ((.iconst 0, 1, []), []), ((.invokevirtual 164, 3, [6, 2, 125]), []), ((.ireturn, 1, [5]), [])]
def b_X3_isName_167 : List (ev_I × List (Nat × Nat)) := [((.aload_n 0, 1, []), []), ((.bipush 120, 2, []), []), ((.bipush 111, 2, []), []), ((.bipush 114, 2, []), []), ((.iconst 0, 1, []), []), ((.iconst 0, 1, []), []), ((.invokevirtual 164, 3, [6, 2, 125]), []), ((.ireturn, 1, [5]), [])]
def b_X3_isName_180 : List (ev_I × List (Nat × Nat)) := [((.aload_n 0, 1, []), []), ((.bipush 99, 2, []), []), ((.bipush 111, 2, []), []), ((.bipush 112, 2, []), []), ((.bipush 121, 2, []), []), ((.iconst 0, 1, []), []), ((.invokevirtual 164, 3, [6, 2, 125]), []), ((.ireturn, 1, [5]), [])]
def b_X3_isName_194 : List (ev_I × List (Nat × Nat)) := [((.aload_n 0, 1, []), []), ((.bipush 112, 2, []), []), ((.bipush 105, 2, []), []), ((.bipush 99, 2, []), []), ((.bipush 107, 2, []), []), ((.iconst 0, 1, []), []), ((.invokevirtual 164, 3, [6, 2, 125]), []), ((.ireturn, 1, [5]), [])]
def b_X3_isName_208 : List (ev_I × List (Nat × Nat)) := [((.aload_n 0, 1, []), []), ((.bipush 115, 2, []), []), ((.bipush 117, 2, []), []), ((.bipush 114, 2, []), []), ((.bipush 101, 2, []), []), ((.iconst 0, 1, []), []), ((.invokevirtual 164, 3, [6, 2, 125]), []), ((.ireturn, 1, [5]), [])]
def b_X3_isName_222 : List (ev_I × List (Nat × Nat)) := [((.aload_n 0, 1, []), []), ((.bipush 116, 2, []), []), ((.bipush 105, 2, []), []), ((.bipush 109, 2, []), []), ((.bipush 101, 2, []), []), ((.bipush 115, 2, []), []), ((.invokevirtual 164, 3, [6, 2, 125]), []), ((.ireturn, 1, [5]), [])]
def tb_X3_isName : List (Nat × List (ev_I × List (Nat × Nat))) := [(0, b_X3_isName_0), (64, b_X3_isName_64), (77, b_X3_isName_77), (90, b_X3_isName_90), (103, b_X3_isName_103), (116, b_X3_isName_116), (129, b_X3_isName_129), (142, b_X3_isName_142), (155, b_X3_isName_155), (167, b_X3_isName_167), (180, b_X3_isName_180), (194, b_X3_isName_194), (208, b_X3_isName_208), (222, b_X3_isName_222)]
def b_X3_statement_0 : List (ev_I × List (Nat × Nat)) := [((.iload_n 1, 1, []), []), ((.iconst 1, 1, []), []), ((.iconst 5, 1, []), []), ((.invokestatic 114, 3, [49, 3]), []), ((.ifCond .ne 6, 3, [520204]), []), ((.bipush (-2), 2, []), []), ((.ireturn, 1, []), [])]
def b_X3_statement_12 : List (ev_I × List (Nat × Nat)) := [((.iconst (-1), 1, []), []), ((.istore_n 2, 1, []), []), ((.iconst 0, 1, []), []), ((.istore_n 3, 1, []), []), ((.nop, 0, [0, 520208]), [])]
def b_X3_statement_16 : List (ev_I × List (Nat × Nat)) := [((.iload_n 3, 1, []), []), ((.bipush 13, 2, []), []), ((.if_icmp .ge 23, 3, [520234]), []), ((.aload_n 0, 1, []), []), ((.iload_n 3, 1, []), []), ((.invokevirtual 168, 3, [2, 2, 126]), []), ((.ifCond .eq 7, 3, [520226]), []), ((.iload_n 3, 1, []), []), ((.goto 4, 3, [520227]), [])]
def b_X3_statement_34 : List (ev_I × List (Nat × Nat)) := [((.iload_n 2, 1, []), []), ((.nop, 0, [0, 520227]), [])]
def b_X3_statement_35 : List (ev_I × List (Nat × Nat)) := [((.nop, 0, [1, 2]), []), ((.istore_n 2, 1, []), []), ((.iinc 3 1, 3, []), []), ((.goto (-23), 3, [520208]), [])]
def b_X3_statement_42 : List (ev_I × List (Nat × Nat)) := [((.iload_n 2, 1, []), []), ((.iconst (-1), 1, []), []), ((.if_icmp .ne 6, 3, [520242]), []), ((.bipush (-3), 2, []), []), ((.ireturn, 1, []), [])]
def b_X3_statement_50 : List (ev_I × List (Nat × Nat)) := [((.aload_n 0, 1, []), []), ((.getfield 171, 3, [0, 0, 7, 2]), []), ((.iconst 5, 1, []), []), ((.if_icmp .ne 6, 3, [520253]), []), ((.bipush (-4), 2, []), []), ((.ireturn, 1, []), [])]
def b_X3_statement_61 : List (ev_I × List (Nat × Nat)) := [((.aload_n 0, 1, []), []), ((.iconst 0, 1, []), []), ((.putfield 161, 3, [0, 0, 20, 2]), []), ((.aload_n 0, 1, []), []), ((.iconst 1, 1, []), []), ((.aload_n 0, 1, []), []), ((.getfield 171, 3, [0, 0, 7, 2]), []), ((.iconst 0, 1, []), []), ((.iconst 0, 1, []), []), ((.iconst 0, 1, []), []), ((.invokevirtual 157, 3, [6, 2, 86]), []), ((.aload_n 0, 1, []), []), ((.getfield 26, 3, [0, 4, 8, 2]), []), ((.aload_n 0, 1, []), []), ((.getfield 171, 3, [0, 0, 7, 2]), []), ((.iload_n 2, 1, []), []), ((.iastore, 1, []), []), ((.aload_n 0, 1, []), []), ((.getfield 29, 3, [0, 4, 9, 2]), []), ((.aload_n 0, 1, []), []), ((.getfield 171, 3, [0, 0, 7, 2]), []), ((.iload_n 1, 1, []), []), ((.iastore, 1, []), []), ((.aload_n 0, 1, []), []), ((.getfield 32, 3, [0, 4, 10, 2]), []), ((.aload_n 0, 1, []), []), ((.getfield 171, 3, [0, 0, 7, 2]), []), ((.iconst 1, 1, []), []), ((.iastore, 1, []), []), ((.aload_n 0, 1, []), []), ((.getfield 35, 3, [0, 4, 11, 2]), []), ((.aload_n 0, 1, []), []), ((.getfield 171, 3, [0, 0, 7, 2]), []), ((.iconst 0, 1, []), []), ((.iastore, 1, []), []), ((.aload_n 0, 1, []), []), ((.getfield 38, 3, [0, 4, 12, 2]), []), ((.aload_n 0, 1, []), []), ((.getfield 171, 3, [0, 0, 7, 2]), []), ((.iconst (-1), 1, []), []), ((.iastore, 1, []), []), ((.iconst 3, 1, []), []), ((.aload_n 0, 1, []), []), ((.getfield 171, 3, [0, 0, 7, 2]), []), ((.imul, 1, []), []), ((.istore_n 3, 1, []), []), ((.nop, 0, [0, 520327]), [])]
def b_X3_statement_135 : List (ev_I × List (Nat × Nat)) := [((.nop, 0, [1, 1, 2]), []), ((.iload_n 3, 1, []), []), ((.iconst 3, 1, []), []), ((.aload_n 0, 1, []), []), ((.getfield 171, 3, [0, 0, 7, 2]), []), ((.imul, 1, []), []), ((.iconst 3, 1, []), []), ((.iadd, 1, []), []), ((.if_icmp .ge 47, 3, [520383]), []), ((.aload_n 0, 1, []), []), ((.getfield 41, 3, [0, 4, 13, 2]), []), ((.iload_n 3, 1, []), []), ((.iload_n 3, 1, []), []), ((.iconst 3, 1, []), []), ((.irem, 1, []), []), ((.ifCond .ne 7, 3, [520354]), []), ((.iconst 0, 1, []), []), ((.goto 4, 3, [520355]), [])]
def b_X3_statement_162 : List (ev_I × List (Nat × Nat)) := [((.iconst (-1), 1, []), []), ((.nop, 0, [0, 520355]), [])]
def b_X3_statement_163 : List (ev_I × List (Nat × Nat)) := [((.nop, 0, [1, 1, 2]), []), ((.iastore, 1, []), []), ((.aload_n 0, 1, []), []), ((.getfield 44, 3, [0, 4, 14, 2]), []), ((.iload_n 3, 1, []), []), ((.iconst 0, 1, []), []), ((.iastore, 1, []), []), ((.aload_n 0, 1, []), []), ((.getfield 47, 3, [0, 4, 15, 2]), []), ((.iload_n 3, 1, []), []), ((.iconst 0, 1, []), []), ((.iastore, 1, []), []), ((.aload_n 0, 1, []), []), ((.getfield 50, 3, [0, 4, 16, 2]), []), ((.iload_n 3, 1, []), []), ((.iconst 0, 1, []), []), ((.iastore, 1, []), []), ((.iinc 3 1, 3, []), []), ((.goto (-53), 3, [520327]), [])]
def b_X3_statement_191 : List (ev_I × List (Nat × Nat)) := [((.aload_n 0, 1, []), []), ((.dup, 1, []), []), ((.getfield 171, 3, [0, 0, 7, 2]), []), ((.iconst 1, 1, []), []), ((.iadd, 1, []), []), ((.putfield 171, 3, [0, 0, 7, 2]), []), ((.aload_n 0, 1, []), []), ((.getfield 171, 3, [0, 0, 7, 2]), []), ((.iconst 1, 1, []), []), ((.isub, 1, []), []), ((.ireturn, 1, []), [])]
def tb_X3_statement : List (Nat × List (ev_I × List (Nat × Nat))) := [(0, b_X3_statement_0), (12, b_X3_statement_12), (16, b_X3_statement_16), (34, b_X3_statement_34), (35, b_X3_statement_35), (42, b_X3_statement_42), (50, b_X3_statement_50), (61, b_X3_statement_61), (135, b_X3_statement_135), (162, b_X3_statement_162), (163, b_X3_statement_163), (191, b_X3_statement_191)]
def b_X0_isStatement_0 : List (ev_I × List (Nat × Nat)) := [((.iload_n 1, 1, []), []), ((.i2l, 1, []), []), ((.lconst 0, 1, []), []), ((.aload_n 0, 1, []), []), ((.getfield 34, 3, [0, 4, 3, 1]), []), ((.invokevirtual 208, 3, [1, 18, 117]), []), ((.iconst 1, 1, []), []), ((.isub, 1, []), []), ((.i2l, 1, []), []), ((.invokestatic 90, 3, [43, 3]), []), ((.ireturn, 1, [5]), [])]
def tb_X0_isStatement : List (Nat × List (ev_I × List (Nat × Nat))) := [(0, b_X0_isStatement_0)]
def b_X0_isReference_0 : List (ev_I × List (Nat × Nat)) := [((.aload_n 0, 1, []), []), ((.iload_n 1, 1, []), []), ((.invokevirtual 221, 3, [2, 1, 128]), []), ((.ifCond .eq 19, 3, [528408]), []), ((.iload_n 2, 1, []), []), ((.i2l, 1, []), []), ((.lconst 0, 1, []), []), ((.ldc2_w 224, 3, [0, 0, 2]), []), ((.invokestatic 90, 3, [43, 3]), []), ((.ifCond .eq 7, 3, [528408]), []), ((.iconst 1, 1, []), []), ((.goto 4, 3, [528409]), [])]
def b_X0_isReference_24 : List (ev_I × List (Nat × Nat)) := [((.nop, 0, [1, 0, 1, 2]), []), ((.iconst 0, 1, []), []), ((.nop, 0, [0, 528409]), [])]
def b_X0_isReference_25 : List (ev_I × List (Nat × Nat)) := [((.nop, 0, [1, 0, 1, 2]), []), ((.ireturn, 1, [5]), [])]
def tb_X0_isReference : List (Nat × List (ev_I × List (Nat × Nat))) := [(0, b_X0_isReference_0), (24, b_X0_isReference_24), (25, b_X0_isReference_25)]
def b_J12_checkIndex_0 : List (ev_I × List (Nat × Nat)) := [((.iload_n 0, 1, []), []), ((.ifCond .lt 8, 3, [532489]), []), ((.iload_n 0, 1, []), []), ((.iload_n 1, 1, []), []), ((.if_icmp .lt 10, 3, [532496]), []), ((.nop, 0, [0, 532489]), [])]
def b_J12_checkIndex_9 : List (ev_I × List (Nat × Nat)) := [((.aload_n 2, 1, []), []), ((.iload_n 0, 1, []), []), ((.iload_n 1, 1, []), []), ((.invokestatic 95, 3, []), []), ((.athrow, 1, []), [])]
def b_J12_checkIndex_16 : List (ev_I × List (Nat × Nat)) := [((.iload_n 0, 1, []), []), ((.ireturn, 1, []), [])]
def tb_J12_checkIndex : List (Nat × List (ev_I × List (Nat × Nat))) := [(0, b_J12_checkIndex_0), (9, b_J12_checkIndex_9), (16, b_J12_checkIndex_16)]
def b_J33_checkIndex_0 : List (ev_I × List (Nat × Nat)) := [((.iload_n 0, 1, []), []), ((.iload_n 1, 1, []), []), ((.aconst_null, 1, []), []), ((.invokestatic 105, 3, [130, 3]), []), ((.ireturn, 1, []), [])]
def tb_J33_checkIndex : List (Nat × List (ev_I × List (Nat × Nat))) := [(0, b_J33_checkIndex_0)]
def b_J20_elementData_0 : List (ev_I × List (Nat × Nat)) := [((.aload_n 0, 1, []), []), ((.getfield 9, 3, [0, 4, 1, 18]), []), ((.iload_n 1, 1, []), []), ((.aaload, 1, []), []), ((.areturn, 1, []), [])]
def tb_J20_elementData : List (Nat × List (ev_I × List (Nat × Nat))) := [(0, b_J20_elementData_0)]
def b_J20_get_0 : List (ev_I × List (Nat × Nat)) := [((.iload_n 1, 1, []), []), ((.aload_n 0, 1, []), []), ((.getfield 48, 3, [0, 0, 2, 18]), []), ((.invokestatic 118, 3, [131, 2]), []), ((.pop, 1, []), []), ((.aload_n 0, 1, []), []), ((.iload_n 1, 1, []), []), ((.invokevirtual 123, 3, [2, 18, 132]), []), ((.areturn, 1, []), [])]
def tb_J20_get : List (Nat × List (ev_I × List (Nat × Nat))) := [(0, b_J20_get_0)]
def b_X6_at_0 : List (ev_I × List (Nat × Nat)) := [((.aload_n 0, 1, []), []), ((.getfield 20, 3, [0, 4, 2, 5]), []), ((.iload_n 1, 1, []), []), ((.aaload, 1, []), []), ((.areturn, 1, []), [])]
def tb_X6_at : List (Nat × List (ev_I × List (Nat × Nat))) := [(0, b_X6_at_0)]
def b_X0_refer_0 : List (ev_I × List (Nat × Nat)) := [((.aload_n 0, 1, []), []), ((.iload_n 1, 1, []), []), ((.iload_n 2, 1, []), []), ((.invokevirtual 226, 3, [3, 1, 129]), []), ((.ifCond .eq 19, 3, [552985]), []), ((.iload_n 3, 1, []), []), ((.invokestatic 106, 3, [44, 1]), []), ((.ifCond .ne 15, 3, [552988]), []), ((.iload_n 3, 1, []), []), ((.iconst (-1), 1, []), []), ((.if_icmp .ne 7, 3, [552985]), []), ((.iload_n 2, 1, []), []), ((.ifCond .ne 6, 3, [552988]), []), ((.nop, 0, [0, 552985]), [])]
def b_X0_refer_25 : List (ev_I × List (Nat × Nat)) := [((.nop, 0, [1, 0, 1, 2, 3, 4, 5]), []), ((.bipush (-2), 2, []), []), ((.ireturn, 1, []), [])]
def b_X0_refer_28 : List (ev_I × List (Nat × Nat)) := [((.nop, 0, [1, 4, 5]), []), ((.aload_n 0, 1, []), []), ((.getfield 34, 3, [0, 4, 3, 1]), []), ((.iload_n 1, 1, []), []), ((.invokevirtual 230, 3, [2, 18, 133]), []), ((.checkcast 209, 3, [1, 5]), []), ((.iload_n 2, 1, []), []), ((.invokevirtual 233, 3, [2, 5, 134]), []), ((.astore 4, 2, []), []), ((.aload 4, 2, []), []), ((.getfield 237, 3, [1, 0, 0, 6]), []), ((.istore 5, 2, []), []), ((.aload 4, 2, []), []), ((.iload_n 3, 1, []), []), ((.putfield 237, 3, [1, 0, 0, 6]), []), ((.aload_n 0, 1, []), []), ((.aload 4, 2, []), []), ((.iload 5, 2, []), []), ((.invokedynamic 242, 5, [1, 134, 2]), []), ((.invokevirtual 180, 3, [2, 1, 84]), []), ((.iload 5, 2, []), []), ((.ireturn, 1, []), [])]
def tb_X0_refer : List (Nat × List (ev_I × List (Nat × Nat))) := [(0, b_X0_refer_0), (25, b_X0_refer_25), (28, b_X0_refer_28)]
def b_X3_isStatement_0 : List (ev_I × List (Nat × Nat)) := [((.iload_n 1, 1, []), []), ((.iconst 0, 1, []), []), ((.aload_n 0, 1, []), []), ((.getfield 171, 3, [0, 0, 7, 2]), []), ((.iconst 1, 1, []), []), ((.isub, 1, []), []), ((.invokestatic 114, 3, [49, 3]), []), ((.ireturn, 1, [5]), [])]
def tb_X3_isStatement : List (Nat × List (ev_I × List (Nat × Nat))) := [(0, b_X3_isStatement_0)]
def b_X3_refer_0 : List (ev_I × List (Nat × Nat)) := [((.aload_n 0, 1, []), []), ((.iload_n 1, 1, []), []), ((.invokevirtual 174, 3, [2, 2, 136]), []), ((.ifCond .eq 29, 3, [561186]), []), ((.iload_n 2, 1, []), []), ((.iconst 0, 1, []), []), ((.iconst 2, 1, []), []), ((.invokestatic 114, 3, [49, 3]), []), ((.ifCond .eq 20, 3, [561186]), []), ((.iload_n 3, 1, []), []), ((.iload_n 2, 1, []), []), ((.ifCond .ne 7, 3, [561178]), []), ((.iconst 0, 1, []), []), ((.goto 4, 3, [561179]), [])]
def b_X3_refer_26 : List (ev_I × List (Nat × Nat)) := [((.iconst (-1), 1, []), []), ((.nop, 0, [0, 561179]), [])]
def b_X3_refer_27 : List (ev_I × List (Nat × Nat)) := [((.nop, 0, [1, 4]), []), ((.iconst 5, 1, []), []), ((.invokestatic 114, 3, [49, 3]), []), ((.ifCond .ne 6, 3, [561189]), []), ((.nop, 0, [0, 561186]), [])]
def b_X3_refer_34 : List (ev_I × List (Nat × Nat)) := [((.nop, 0, [1, 0, 1, 2, 3, 4]), []), ((.bipush (-2), 2, []), []), ((.ireturn, 1, []), [])]
def b_X3_refer_37 : List (ev_I × List (Nat × Nat)) := [((.aload_n 0, 1, []), []), ((.getfield 41, 3, [0, 4, 13, 2]), []), ((.iconst 3, 1, []), []), ((.iload_n 1, 1, []), []), ((.imul, 1, []), []), ((.iload_n 2, 1, []), []), ((.iadd, 1, []), []), ((.iaload, 1, []), []), ((.istore 4, 2, []), []), ((.aload_n 0, 1, []), []), ((.iconst 2, 1, []), []), ((.iconst 3, 1, []), []), ((.iload_n 1, 1, []), []), ((.imul, 1, []), []), ((.iload_n 2, 1, []), []), ((.iadd, 1, []), []), ((.iload 4, 2, []), []), ((.iconst 0, 1, []), []), ((.iconst 0, 1, []), []), ((.invokevirtual 157, 3, [6, 2, 86]), []), ((.aload_n 0, 1, []), []), ((.getfield 41, 3, [0, 4, 13, 2]), []), ((.iconst 3, 1, []), []), ((.iload_n 1, 1, []), []), ((.imul, 1, []), []), ((.iload_n 2, 1, []), []), ((.iadd, 1, []), []), ((.iload_n 3, 1, []), []), ((.iastore, 1, []), []), ((.iload 4, 2, []), []), ((.ireturn, 1, []), [])]
def tb_X3_refer : List (Nat × List (ev_I × List (Nat × Nat))) := [(0, b_X3_refer_0), (26, b_X3_refer_26), (27, b_X3_refer_27), (34, b_X3_refer_34), (37, b_X3_refer_37)]
def b_X7_moves_0 : List (ev_I × List (Nat × Nat)) := [((.aload_n 0, 1, []), []), ((.iload_n 1, 1, []), []), ((.putfield 21, 3, [0, 0, 1, 6]), []), ((.aload_n 0, 1, []), []), ((.iload_n 2, 1, []), []), ((.putfield 24, 3, [0, 0, 2, 6]), []), ((.aload_n 0, 1, []), []), ((.iload_n 3, 1, []), []), ((.putfield 27, 3, [0, 0, 3, 6]), []), ((.aload_n 0, 1, []), []), ((.iload_n 1, 1, []), []), ((.iload_n 2, 1, []), []), ((.iload_n 3, 1, []), []), ((.invokedynamic 30, 5, [1, 135, 3]), []), ((.putfield 11, 3, [0, 4, 4, 6]), []), ((.return_, 1, []), [])]
def tb_X7_moves : List (Nat × List (ev_I × List (Nat × Nat))) := [(0, b_X7_moves_0)]
def b_X0_place_0 : List (ev_I × List (Nat × Nat)) := [((.aload_n 0, 1, []), []), ((.iload_n 1, 1, []), []), ((.iload_n 2, 1, []), []), ((.invokevirtual 226, 3, [3, 1, 129]), []), ((.ifCond .eq 47, 3, [569397]), []), ((.iload_n 3, 1, []), []), ((.i2l, 1, []), []), ((.ldc2_w 245, 3, [0, 1, 60]), []), ((.ldc2_w 247, 3, [0, 0, 60]), []), ((.invokestatic 90, 3, [43, 3]), []), ((.ifCond .eq 33, 3, [569397]), []), ((.iload 4, 2, []), []), ((.i2l, 1, []), []), ((.ldc2_w 249, 3, [0, 1, 6]), []), ((.ldc2_w 251, 3, [0, 0, 6]), []), ((.invokestatic 90, 3, [43, 3]), []), ((.ifCond .eq 18, 3, [569397]), []), ((.iload 5, 2, []), []), ((.i2l, 1, []), []), ((.ldc2_w 249, 3, [0, 1, 6]), []), ((.ldc2_w 251, 3, [0, 0, 6]), []), ((.invokestatic 90, 3, [43, 3]), []), ((.ifCond .ne 6, 3, [569400]), []), ((.nop, 0, [0, 569397]), [])]
def b_X0_place_53 : List (ev_I × List (Nat × Nat)) := [((.nop, 0, [1, 0, 1, 2, 3, 4, 5, 6, 7, 8, 9]), []), ((.bipush (-2), 2, []), []), ((.ireturn, 1, []), [])]
def b_X0_place_56 : List (ev_I × List (Nat × Nat)) := [((.aload_n 0, 1, []), []), ((.getfield 34, 3, [0, 4, 3, 1]), []), ((.iload_n 1, 1, []), []), ((.invokevirtual 230, 3, [2, 18, 133]), []), ((.checkcast 209, 3, [1, 5]), []), ((.iload_n 2, 1, []), []), ((.invokevirtual 233, 3, [2, 5, 134]), []), ((.astore 6, 2, []), []), ((.aload 6, 2, []), []), ((.getfield 253, 3, [1, 0, 1, 6]), []), ((.istore 7, 2, []), []), ((.aload 6, 2, []), []), ((.getfield 256, 3, [1, 0, 2, 6]), []), ((.istore 8, 2, []), []), ((.aload 6, 2, []), []), ((.getfield 259, 3, [1, 0, 3, 6]), []), ((.istore 9, 2, []), []), ((.aload 6, 2, []), []), ((.iload_n 3, 1, []), []), ((.iload 4, 2, []), []), ((.iload 5, 2, []), []), ((.invokevirtual 262, 3, [4, 6, 138]), []), ((.aload_n 0, 1, []), []), ((.aload 6, 2, []), []), ((.iload 7, 2, []), []), ((.iload 8, 2, []), []), ((.iload 9, 2, []), []), ((.invokedynamic 265, 5, [1, 136, 4]), []), ((.invokevirtual 180, 3, [2, 1, 84]), []), ((.iconst 1, 1, []), []), ((.ireturn, 1, []), [])]
def tb_X0_place : List (Nat × List (ev_I × List (Nat × Nat))) := [(0, b_X0_place_0), (53, b_X0_place_53), (56, b_X0_place_56)]
def b_X3_place_0 : List (ev_I × List (Nat × Nat)) := [((.aload_n 0, 1, []), []), ((.iload_n 1, 1, []), []), ((.invokevirtual 174, 3, [2, 2, 136]), []), ((.ifCond .eq 47, 3, [573492]), []), ((.iload_n 2, 1, []), []), ((.iconst 0, 1, []), []), ((.iconst 2, 1, []), []), ((.invokestatic 114, 3, [49, 3]), []), ((.ifCond .eq 38, 3, [573492]), []), ((.iload_n 3, 1, []), []), ((.bipush (-60), 2, []), []), ((.bipush 60, 2, []), []), ((.invokestatic 114, 3, [49, 3]), []), ((.ifCond .eq 27, 3, [573492]), []), ((.iload 4, 2, []), []), ((.bipush (-6), 2, []), []), ((.bipush 6, 2, []), []), ((.invokestatic 114, 3, [49, 3]), []), ((.ifCond .eq 15, 3, [573492]), []), ((.iload 5, 2, []), []), ((.bipush (-6), 2, []), []), ((.bipush 6, 2, []), []), ((.invokestatic 114, 3, [49, 3]), []), ((.ifCond .ne 6, 3, [573495]), []), ((.nop, 0, [0, 573492]), [])]
def b_X3_place_52 : List (ev_I × List (Nat × Nat)) := [((.nop, 0, [1, 0, 1, 2, 3, 4, 5, 6]), []), ((.bipush (-2), 2, []), []), ((.ireturn, 1, []), [])]
def b_X3_place_55 : List (ev_I × List (Nat × Nat)) := [((.iconst 3, 1, []), []), ((.iload_n 1, 1, []), []), ((.imul, 1, []), []), ((.iload_n 2, 1, []), []), ((.iadd, 1, []), []), ((.istore 6, 2, []), []), ((.aload_n 0, 1, []), []), ((.iconst 3, 1, []), []), ((.iload 6, 2, []), []), ((.aload_n 0, 1, []), []), ((.getfield 44, 3, [0, 4, 14, 2]), []), ((.iload 6, 2, []), []), ((.iaload, 1, []), []), ((.aload_n 0, 1, []), []), ((.getfield 47, 3, [0, 4, 15, 2]), []), ((.iload 6, 2, []), []), ((.iaload, 1, []), []), ((.aload_n 0, 1, []), []), ((.getfield 50, 3, [0, 4, 16, 2]), []), ((.iload 6, 2, []), []), ((.iaload, 1, []), []), ((.invokevirtual 157, 3, [6, 2, 86]), []), ((.aload_n 0, 1, []), []), ((.getfield 44, 3, [0, 4, 14, 2]), []), ((.iload 6, 2, []), []), ((.iload_n 3, 1, []), []), ((.iastore, 1, []), []), ((.aload_n 0, 1, []), []), ((.getfield 47, 3, [0, 4, 15, 2]), []), ((.iload 6, 2, []), []), ((.iload 4, 2, []), []), ((.iastore, 1, []), []), ((.aload_n 0, 1, []), []), ((.getfield 50, 3, [0, 4, 16, 2]), []), ((.iload 6, 2, []), []), ((.iload 5, 2, []), []), ((.iastore, 1, []), []), ((.iconst 1, 1, []), []), ((.ireturn, 1, []), [])]
def tb_X3_place : List (Nat × List (ev_I × List (Nat × Nat))) := [(0, b_X3_place_0), (52, b_X3_place_52), (55, b_X3_place_55)]
def b_X6_waits_0 : List (ev_I × List (Nat × Nat)) := [((.aload_n 0, 1, []), []), ((.iload_n 1, 1, []), []), ((.putfield 24, 3, [0, 0, 3, 5]), []), ((.aload_n 0, 1, []), []), ((.iload_n 2, 1, []), []), ((.putfield 46, 3, [0, 0, 4, 5]), []), ((.aload_n 0, 1, []), []), ((.iload_n 1, 1, []), []), ((.iload_n 2, 1, []), []), ((.invokedynamic 49, 5, [1, 137, 2]), []), ((.putfield 35, 3, [0, 4, 6, 5]), []), ((.return_, 1, []), [])]
def tb_X6_waits : List (Nat × List (ev_I × List (Nat × Nat))) := [(0, b_X6_waits_0)]
def b_X0_guard_0 : List (ev_I × List (Nat × Nat)) := [((.aload_n 0, 1, []), []), ((.iload_n 1, 1, []), []), ((.invokevirtual 221, 3, [2, 1, 128]), []), ((.ifCond .eq 28, 3, [581665]), []), ((.iload_n 2, 1, []), []), ((.i2l, 1, []), []), ((.lconst 1, 1, []), []), ((.ldc2_w 251, 3, [0, 0, 6]), []), ((.invokestatic 90, 3, [43, 3]), []), ((.ifCond .eq 16, 3, [581665]), []), ((.iload_n 3, 1, []), []), ((.i2l, 1, []), []), ((.lconst 0, 1, []), []), ((.iload_n 2, 1, []), []), ((.iconst 1, 1, []), []), ((.isub, 1, []), []), ((.i2l, 1, []), []), ((.invokestatic 90, 3, [43, 3]), []), ((.ifCond .ne 6, 3, [581668]), []), ((.nop, 0, [0, 581665]), [])]
def b_X0_guard_33 : List (ev_I × List (Nat × Nat)) := [((.nop, 0, [1, 0, 1, 2, 3, 4, 5, 6]), []), ((.bipush (-2), 2, []), []), ((.ireturn, 1, []), [])]
def b_X0_guard_36 : List (ev_I × List (Nat × Nat)) := [((.aload_n 0, 1, []), []), ((.getfield 34, 3, [0, 4, 3, 1]), []), ((.iload_n 1, 1, []), []), ((.invokevirtual 230, 3, [2, 18, 133]), []), ((.checkcast 209, 3, [1, 5]), []), ((.astore 4, 2, []), []), ((.aload 4, 2, []), []), ((.getfield 268, 3, [1, 0, 3, 5]), []), ((.istore 5, 2, []), []), ((.aload 4, 2, []), []), ((.getfield 271, 3, [1, 0, 4, 5]), []), ((.istore 6, 2, []), []), ((.aload 4, 2, []), []), ((.iload_n 2, 1, []), []), ((.iload_n 3, 1, []), []), ((.invokevirtual 274, 3, [3, 5, 141]), []), ((.aload_n 0, 1, []), []), ((.aload 4, 2, []), []), ((.iload 5, 2, []), []), ((.iload 6, 2, []), []), ((.invokedynamic 277, 5, [1, 138, 3]), []), ((.invokevirtual 180, 3, [2, 1, 84]), []), ((.iconst 1, 1, []), []), ((.ireturn, 1, []), [])]
def tb_X0_guard : List (Nat × List (ev_I × List (Nat × Nat))) := [(0, b_X0_guard_0), (33, b_X0_guard_33), (36, b_X0_guard_36)]
def b_X3_guard_0 : List (ev_I × List (Nat × Nat)) := [((.aload_n 0, 1, []), []), ((.iload_n 1, 1, []), []), ((.invokevirtual 174, 3, [2, 2, 136]), []), ((.ifCond .eq 24, 3, [585757]), []), ((.iload_n 2, 1, []), []), ((.iconst 1, 1, []), []), ((.bipush 6, 2, []), []), ((.invokestatic 114, 3, [49, 3]), []), ((.ifCond .eq 14, 3, [585757]), []), ((.iload_n 3, 1, []), []), ((.iconst 0, 1, []), []), ((.iload_n 2, 1, []), []), ((.iconst 1, 1, []), []), ((.isub, 1, []), []), ((.invokestatic 114, 3, [49, 3]), []), ((.ifCond .ne 6, 3, [585760]), []), ((.nop, 0, [0, 585757]), [])]
def b_X3_guard_29 : List (ev_I × List (Nat × Nat)) := [((.nop, 0, [1, 0, 1, 2, 3]), []), ((.bipush (-2), 2, []), []), ((.ireturn, 1, []), [])]
def b_X3_guard_32 : List (ev_I × List (Nat × Nat)) := [((.aload_n 0, 1, []), []), ((.iconst 4, 1, []), []), ((.iload_n 1, 1, []), []), ((.aload_n 0, 1, []), []), ((.getfield 32, 3, [0, 4, 10, 2]), []), ((.iload_n 1, 1, []), []), ((.iaload, 1, []), []), ((.aload_n 0, 1, []), []), ((.getfield 35, 3, [0, 4, 11, 2]), []), ((.iload_n 1, 1, []), []), ((.iaload, 1, []), []), ((.iconst 0, 1, []), []), ((.invokevirtual 157, 3, [6, 2, 86]), []), ((.aload_n 0, 1, []), []), ((.getfield 32, 3, [0, 4, 10, 2]), []), ((.iload_n 1, 1, []), []), ((.iload_n 2, 1, []), []), ((.iastore, 1, []), []), ((.aload_n 0, 1, []), []), ((.getfield 35, 3, [0, 4, 11, 2]), []), ((.iload_n 1, 1, []), []), ((.iload_n 3, 1, []), []), ((.iastore, 1, []), []), ((.iconst 1, 1, []), []), ((.ireturn, 1, []), [])]
def tb_X3_guard : List (Nat × List (ev_I × List (Nat × Nat))) := [(0, b_X3_guard_0), (29, b_X3_guard_29), (32, b_X3_guard_32)]
def b_X0_mask_0 : List (ev_I × List (Nat × Nat)) := [((.aload_n 0, 1, []), []), ((.iload_n 1, 1, []), []), ((.invokevirtual 221, 3, [2, 1, 128]), []), ((.ifCond .eq 17, 3, [589846]), []), ((.iload_n 2, 1, []), []), ((.i2l, 1, []), []), ((.ldc2_w 280, 3, [0, 1, 1]), []), ((.ldc2_w 100, 3, [0, 0, 5]), []), ((.invokestatic 90, 3, [43, 3]), []), ((.ifCond .ne 6, 3, [589849]), []), ((.nop, 0, [0, 589846]), [])]
def b_X0_mask_22 : List (ev_I × List (Nat × Nat)) := [((.nop, 0, [1, 0, 1, 2, 3, 4]), []), ((.bipush (-2), 2, []), []), ((.ireturn, 1, []), [])]
def b_X0_mask_25 : List (ev_I × List (Nat × Nat)) := [((.aload_n 0, 1, []), []), ((.getfield 34, 3, [0, 4, 3, 1]), []), ((.iload_n 1, 1, []), []), ((.invokevirtual 230, 3, [2, 18, 133]), []), ((.checkcast 209, 3, [1, 5]), []), ((.astore_n 3, 1, []), []), ((.aload_n 3, 1, []), []), ((.getfield 282, 3, [1, 0, 5, 5]), []), ((.istore 4, 2, []), []), ((.aload_n 3, 1, []), []), ((.iload_n 2, 1, []), []), ((.putfield 282, 3, [1, 0, 5, 5]), []), ((.aload_n 0, 1, []), []), ((.aload_n 3, 1, []), []), ((.iload 4, 2, []), []), ((.invokedynamic 285, 5, [1, 139, 2]), []), ((.invokevirtual 180, 3, [2, 1, 84]), []), ((.iload 4, 2, []), []), ((.ireturn, 1, []), [])]
def tb_X0_mask : List (Nat × List (ev_I × List (Nat × Nat))) := [(0, b_X0_mask_0), (22, b_X0_mask_22), (25, b_X0_mask_25)]
def b_X3_mask_0 : List (ev_I × List (Nat × Nat)) := [((.aload_n 0, 1, []), []), ((.iload_n 1, 1, []), []), ((.invokevirtual 174, 3, [2, 2, 136]), []), ((.ifCond .eq 12, 3, [593937]), []), ((.iload_n 2, 1, []), []), ((.iconst (-1), 1, []), []), ((.iconst 5, 1, []), []), ((.invokestatic 114, 3, [49, 3]), []), ((.ifCond .ne 6, 3, [593940]), []), ((.nop, 0, [0, 593937]), [])]
def b_X3_mask_17 : List (ev_I × List (Nat × Nat)) := [((.nop, 0, [1, 0, 1, 2, 3]), []), ((.bipush (-2), 2, []), []), ((.ireturn, 1, []), [])]
def b_X3_mask_20 : List (ev_I × List (Nat × Nat)) := [((.aload_n 0, 1, []), []), ((.getfield 38, 3, [0, 4, 12, 2]), []), ((.iload_n 1, 1, []), []), ((.iaload, 1, []), []), ((.istore_n 3, 1, []), []), ((.aload_n 0, 1, []), []), ((.iconst 5, 1, []), []), ((.iload_n 1, 1, []), []), ((.iload_n 3, 1, []), []), ((.iconst 0, 1, []), []), ((.iconst 0, 1, []), []), ((.invokevirtual 157, 3, [6, 2, 86]), []), ((.aload_n 0, 1, []), []), ((.getfield 38, 3, [0, 4, 12, 2]), []), ((.iload_n 1, 1, []), []), ((.iload_n 2, 1, []), []), ((.iastore, 1, []), []), ((.iload_n 3, 1, []), []), ((.ireturn, 1, []), [])]
def tb_X3_mask : List (Nat × List (ev_I × List (Nat × Nat))) := [(0, b_X3_mask_0), (17, b_X3_mask_17), (20, b_X3_mask_20)]
def b_J21_dec_0 : List (ev_I × List (Nat × Nat)) := [((.iinc 0 (-1), 3, []), []), ((.iload_n 0, 1, []), []), ((.ifCond .ge 7, 3, [598027]), []), ((.iload_n 1, 1, []), []), ((.iconst 1, 1, []), []), ((.isub, 1, []), []), ((.istore_n 0, 1, []), []), ((.nop, 0, [0, 598027]), [])]
def b_J21_dec_11 : List (ev_I × List (Nat × Nat)) := [((.nop, 0, [1, 1]), []), ((.iload_n 0, 1, []), []), ((.ireturn, 1, []), [])]
def tb_J21_dec : List (Nat × List (ev_I × List (Nat × Nat))) := [(0, b_J21_dec_0), (11, b_J21_dec_11)]
def b_J21_pollLast_0 : List (ev_I × List (Nat × Nat)) := [((.aload_n 0, 1, []), []), ((.getfield 3, 3, [0, 4, 0, 19]), []), ((.dup, 1, []), []), ((.astore_n 1, 1, []), []), ((.aload_n 0, 1, []), []), ((.getfield 20, 3, [0, 0, 2, 19]), []), ((.aload_n 1, 1, []), []), ((.arraylength, 1, []), []), ((.invokestatic 68, 3, [146, 2]), []), ((.dup, 1, []), []), ((.istore_n 2, 1, []), []), ((.invokestatic 103, 3, [74, 2]), []), ((.astore_n 3, 1, []), []), ((.aload_n 3, 1, []), []), ((.ifnull 12, 3, [602146]), []), ((.aload_n 1, 1, []), []), ((.aload_n 0, 1, []), []), ((.iload_n 2, 1, []), []), ((.dup_x1, 1, []), []), ((.putfield 20, 3, [0, 0, 2, 19]), []), ((.aconst_null, 1, []), []), ((.aastore, 1, []), []), ((.nop, 0, [0, 602146]), [])]
def b_J21_pollLast_34 : List (ev_I × List (Nat × Nat)) := [((.nop, 0, [1, 0, 1, 2]), []), ((.aload_n 3, 1, []), []), ((.areturn, 1, []), [])]
def tb_J21_pollLast : List (Nat × List (ev_I × List (Nat × Nat))) := [(0, b_J21_pollLast_0), (34, b_J21_pollLast_34)]
def b_X0_lambda_turns_0_0 : List (ev_I × List (Nat × Nat)) := [((.aload_n 0, 1, []), []), ((.iload_n 1, 1, []), []), ((.putfield 173, 3, [0, 0, 4, 1]), []), ((.iconst 0, 1, []), []), ((.ireturn, 1, []), [])]
def tb_X0_lambda_turns_0 : List (Nat × List (ev_I × List (Nat × Nat))) := [(0, b_X0_lambda_turns_0_0)]
def b_J20_fastRemove_0 : List (ev_I × List (Nat × Nat)) := [((.aload_n 0, 1, []), []), ((.dup, 1, []), []), ((.getfield 63, 3, [0, 0, 0, 18]), []), ((.iconst 1, 1, []), []), ((.iadd, 1, []), []), ((.putfield 63, 3, [0, 0, 0, 18]), []), ((.aload_n 0, 1, []), []), ((.getfield 48, 3, [0, 0, 2, 18]), []), ((.iconst 1, 1, []), []), ((.isub, 1, []), []), ((.dup, 1, []), []), ((.istore_n 3, 1, []), []), ((.iload_n 2, 1, []), []), ((.if_icmp .le 15, 3, [610338]), []), ((.aload_n 1, 1, []), []), ((.iload_n 2, 1, []), []), ((.iconst 1, 1, []), []), ((.iadd, 1, []), []), ((.aload_n 1, 1, []), []), ((.iload_n 2, 1, []), []), ((.iload_n 3, 1, []), []), ((.iload_n 2, 1, []), []), ((.isub, 1, []), []), ((.invokestatic 112, 3, [9000, 3]), []), ((.nop, 0, [0, 610338]), [])]
def b_J20_fastRemove_34 : List (ev_I × List (Nat × Nat)) := [((.nop, 0, [1, 2]), []), ((.aload_n 1, 1, []), []), ((.aload_n 0, 1, []), []), ((.iload_n 3, 1, []), []), ((.dup_x1, 1, []), []), ((.putfield 48, 3, [0, 0, 2, 18]), []), ((.aconst_null, 1, []), []), ((.aastore, 1, []), []), ((.return_, 1, []), [])]
def tb_J20_fastRemove : List (Nat × List (ev_I × List (Nat × Nat))) := [(0, b_J20_fastRemove_0), (34, b_J20_fastRemove_34)]
def b_J20_remove_0 : List (ev_I × List (Nat × Nat)) := [((.iload_n 1, 1, []), []), ((.aload_n 0, 1, []), []), ((.getfield 48, 3, [0, 0, 2, 18]), []), ((.invokestatic 118, 3, [131, 2]), []), ((.pop, 1, []), []), ((.aload_n 0, 1, []), []), ((.getfield 9, 3, [0, 4, 1, 18]), []), ((.astore_n 2, 1, []), []), ((.aload_n 2, 1, []), []), ((.iload_n 1, 1, []), []), ((.aaload, 1, []), []), ((.astore_n 3, 1, []), []), ((.aload_n 0, 1, []), []), ((.aload_n 2, 1, []), []), ((.iload_n 1, 1, []), []), ((.invokevirtual 144, 3, [3, 18, 149]), []), ((.aload_n 3, 1, []), []), ((.areturn, 1, []), [])]
def tb_J20_remove : List (Nat × List (ev_I × List (Nat × Nat))) := [(0, b_J20_remove_0)]
def b_X0_lambda_statement_1_0 : List (ev_I × List (Nat × Nat)) := [((.aload_n 0, 1, []), []), ((.getfield 34, 3, [0, 4, 3, 1]), []), ((.aload_n 0, 1, []), []), ((.getfield 34, 3, [0, 4, 3, 1]), []), ((.invokevirtual 208, 3, [1, 18, 117]), []), ((.iconst 1, 1, []), []), ((.isub, 1, []), []), ((.invokevirtual 703, 3, [2, 18, 150]), []), ((.pop, 1, []), []), ((.iconst 1, 1, []), []), ((.ireturn, 1, []), [])]
def tb_X0_lambda_statement_1 : List (Nat × List (ev_I × List (Nat × Nat))) := [(0, b_X0_lambda_statement_1_0)]
def b_X0_lambda_refer_2_0 : List (ev_I × List (Nat × Nat)) := [((.aload_n 0, 1, []), []), ((.iload_n 1, 1, []), []), ((.putfield 237, 3, [1, 0, 0, 6]), []), ((.iconst 2, 1, []), []), ((.ireturn, 1, []), [])]
def tb_X0_lambda_refer_2 : List (Nat × List (ev_I × List (Nat × Nat))) := [(0, b_X0_lambda_refer_2_0)]
def b_X0_lambda_place_3_0 : List (ev_I × List (Nat × Nat)) := [((.aload_n 0, 1, []), []), ((.iload_n 1, 1, []), []), ((.iload_n 2, 1, []), []), ((.iload_n 3, 1, []), []), ((.invokevirtual 262, 3, [4, 6, 138]), []), ((.iconst 3, 1, []), []), ((.ireturn, 1, []), [])]
def tb_X0_lambda_place_3 : List (Nat × List (ev_I × List (Nat × Nat))) := [(0, b_X0_lambda_place_3_0)]
def b_X0_lambda_guard_4_0 : List (ev_I × List (Nat × Nat)) := [((.aload_n 0, 1, []), []), ((.iload_n 1, 1, []), []), ((.iload_n 2, 1, []), []), ((.invokevirtual 274, 3, [3, 5, 141]), []), ((.iconst 4, 1, []), []), ((.ireturn, 1, []), [])]
def tb_X0_lambda_guard_4 : List (Nat × List (ev_I × List (Nat × Nat))) := [(0, b_X0_lambda_guard_4_0)]
def b_X0_lambda_mask_5_0 : List (ev_I × List (Nat × Nat)) := [((.aload_n 0, 1, []), []), ((.iload_n 1, 1, []), []), ((.putfield 282, 3, [1, 0, 5, 5]), []), ((.iconst 5, 1, []), []), ((.ireturn, 1, []), [])]
def tb_X0_lambda_mask_5 : List (Nat × List (ev_I × List (Nat × Nat))) := [(0, b_X0_lambda_mask_5_0)]
def b_X0_undo_0 : List (ev_I × List (Nat × Nat)) := [((.aload_n 0, 1, []), []), ((.getfield 41, 3, [0, 4, 5, 1]), []), ((.invokevirtual 288, 3, [1, 19, 147]), []), ((.checkcast 162, 3, [1, 9]), []), ((.astore_n 1, 1, []), []), ((.aload_n 1, 1, []), []), ((.ifnonnull 8, 3, [638996]), []), ((.bipush (-3), 2, []), []), ((.goto 12, 3, [639005]), [])]
def b_X0_undo_20 : List (ev_I × List (Nat × Nat)) := [((.aload_n 1, 1, []), []), ((.getfield 291, 3, [1, 4, 0, 9]), []), ((.invokeinterface 295 1, 5, [1, 1, 0, 130, 133, 134, 136, 138, 139]), []), ((.nop, 0, [0, 639005]), [])]
def b_X0_undo_29 : List (ev_I × List (Nat × Nat)) := [((.nop, 0, [1, 0, 1]), []), ((.ireturn, 1, []), [])]
def tb_X0_undo : List (Nat × List (ev_I × List (Nat × Nat))) := [(0, b_X0_undo_0), (20, b_X0_undo_20), (29, b_X0_undo_29)]
def b_X3_undo_0 : List (ev_I × List (Nat × Nat)) := [((.aload_n 0, 1, []), []), ((.getfield 151, 3, [0, 0, 18, 2]), []), ((.ifCond .ne 6, 3, [643082]), []), ((.bipush (-3), 2, []), []), ((.ireturn, 1, []), [])]
def b_X3_undo_10 : List (ev_I × List (Nat × Nat)) := [((.aload_n 0, 1, []), []), ((.dup, 1, []), []), ((.getfield 151, 3, [0, 0, 18, 2]), []), ((.iconst 1, 1, []), []), ((.isub, 1, []), []), ((.putfield 151, 3, [0, 0, 18, 2]), []), ((.aload_n 0, 1, []), []), ((.getfield 53, 3, [0, 4, 17, 2]), []), ((.bipush 6, 2, []), []), ((.aload_n 0, 1, []), []), ((.getfield 151, 3, [0, 0, 18, 2]), []), ((.imul, 1, []), []), ((.iaload, 1, []), []), ((.istore_n 1, 1, []), []), ((.aload_n 0, 1, []), []), ((.getfield 53, 3, [0, 4, 17, 2]), []), ((.bipush 6, 2, []), []), ((.aload_n 0, 1, []), []), ((.getfield 151, 3, [0, 0, 18, 2]), []), ((.imul, 1, []), []), ((.iconst 1, 1, []), []), ((.iadd, 1, []), []), ((.iaload, 1, []), []), ((.istore_n 2, 1, []), []), ((.aload_n 0, 1, []), []), ((.getfield 53, 3, [0, 4, 17, 2]), []), ((.bipush 6, 2, []), []), ((.aload_n 0, 1, []), []), ((.getfield 151, 3, [0, 0, 18, 2]), []), ((.imul, 1, []), []), ((.iconst 2, 1, []), []), ((.iadd, 1, []), []), ((.iaload, 1, []), []), ((.istore_n 3, 1, []), []), ((.aload_n 0, 1, []), []), ((.getfield 53, 3, [0, 4, 17, 2]), []), ((.bipush 6, 2, []), []), ((.aload_n 0, 1, []), []), ((.getfield 151, 3, [0, 0, 18, 2]), []), ((.imul, 1, []), []), ((.iconst 3, 1, []), []), ((.iadd, 1, []), []), ((.iaload, 1, []), []), ((.istore 4, 2, []), []), ((.iload_n 1, 1, []), []), ((.tableswitch 123 0 4 #[36, 44, 57, 67, 105], 36, [643275, 643188, 643196, 643209, 643219, 643257]), [])]
def b_X3_undo_116 : List (ev_I × List (Nat × Nat)) := [((.aload_n 0, 1, []), []), ((.iload_n 3, 1, []), []), ((.putfield 154, 3, [0, 0, 6, 2]), []), ((.goto 89, 3, [643282]), [])]
def b_X3_undo_124 : List (ev_I × List (Nat × Nat)) := [((.aload_n 0, 1, []), []), ((.dup, 1, []), []), ((.getfield 171, 3, [0, 0, 7, 2]), []), ((.iconst 1, 1, []), []), ((.isub, 1, []), []), ((.putfield 171, 3, [0, 0, 7, 2]), []), ((.goto 76, 3, [643282]), [])]
def b_X3_undo_137 : List (ev_I × List (Nat × Nat)) := [((.aload_n 0, 1, []), []), ((.getfield 41, 3, [0, 4, 13, 2]), []), ((.iload_n 2, 1, []), []), ((.iload_n 3, 1, []), []), ((.iastore, 1, []), []), ((.goto 66, 3, [643282]), [])]
def b_X3_undo_147 : List (ev_I × List (Nat × Nat)) := [((.aload_n 0, 1, []), []), ((.getfield 44, 3, [0, 4, 14, 2]), []), ((.iload_n 2, 1, []), []), ((.iload_n 3, 1, []), []), ((.iastore, 1, []), []), ((.aload_n 0, 1, []), []), ((.getfield 47, 3, [0, 4, 15, 2]), []), ((.iload_n 2, 1, []), []), ((.iload 4, 2, []), []), ((.iastore, 1, []), []), ((.aload_n 0, 1, []), []), ((.getfield 50, 3, [0, 4, 16, 2]), []), ((.iload_n 2, 1, []), []), ((.aload_n 0, 1, []), []), ((.getfield 53, 3, [0, 4, 17, 2]), []), ((.bipush 6, 2, []), []), ((.aload_n 0, 1, []), []), ((.getfield 151, 3, [0, 0, 18, 2]), []), ((.imul, 1, []), []), ((.iconst 4, 1, []), []), ((.iadd, 1, []), []), ((.iaload, 1, []), []), ((.iastore, 1, []), []), ((.goto 28, 3, [643282]), [])]
def b_X3_undo_185 : List (ev_I × List (Nat × Nat)) := [((.aload_n 0, 1, []), []), ((.getfield 32, 3, [0, 4, 10, 2]), []), ((.iload_n 2, 1, []), []), ((.iload_n 3, 1, []), []), ((.iastore, 1, []), []), ((.aload_n 0, 1, []), []), ((.getfield 35, 3, [0, 4, 11, 2]), []), ((.iload_n 2, 1, []), []), ((.iload 4, 2, []), []), ((.iastore, 1, []), []), ((.goto 10, 3, [643282]), [])]
def b_X3_undo_203 : List (ev_I × List (Nat × Nat)) := [((.aload_n 0, 1, []), []), ((.getfield 38, 3, [0, 4, 12, 2]), []), ((.iload_n 2, 1, []), []), ((.iload_n 3, 1, []), []), ((.iastore, 1, []), []), ((.nop, 0, [0, 643282]), [])]
def b_X3_undo_210 : List (ev_I × List (Nat × Nat)) := [((.nop, 0, [1, 0, 2, 3, 4]), []), ((.iload_n 1, 1, []), []), ((.ireturn, 1, []), [])]
def tb_X3_undo : List (Nat × List (ev_I × List (Nat × Nat))) := [(0, b_X3_undo_0), (10, b_X3_undo_10), (116, b_X3_undo_116), (124, b_X3_undo_124), (137, b_X3_undo_137), (147, b_X3_undo_147), (185, b_X3_undo_185), (203, b_X3_undo_203), (210, b_X3_undo_210)]
def b_X4_isNumbers_0 : List (ev_I × List (Nat × Nat)) := [((.aload_n 0, 1, []), []), ((.getfield 9, 3, [0, 0, 1, 4]), []), ((.iconst 4, 1, []), []), ((.if_icmp .eq 7, 3, [647180]), []), ((.iconst 1, 1, []), []), ((.goto 4, 3, [647181]), [])]
def b_X4_isNumbers_12 : List (ev_I × List (Nat × Nat)) := [((.iconst 0, 1, []), []), ((.nop, 0, [0, 647181]), [])]
def b_X4_isNumbers_13 : List (ev_I × List (Nat × Nat)) := [((.nop, 0, [1, 0]), []), ((.ireturn, 1, [5]), [])]
def tb_X4_isNumbers : List (Nat × List (ev_I × List (Nat × Nat))) := [(0, b_X4_isNumbers_0), (12, b_X4_isNumbers_12), (13, b_X4_isNumbers_13)]
def b_X0_numbers_0 : List (ev_I × List (Nat × Nat)) := [((.aload_n 0, 1, []), []), ((.getfield 25, 3, [0, 4, 2, 1]), []), ((.iload_n 1, 1, []), []), ((.aaload, 1, []), []), ((.astore_n 2, 1, []), []), ((.aload_n 2, 1, []), []), ((.ifnull 14, 3, [651286]), []), ((.aload_n 2, 1, []), []), ((.invokevirtual 102, 3, [1, 4, 158]), []), ((.ifCond .eq 7, 3, [651286]), []), ((.aload_n 2, 1, []), []), ((.goto 4, 3, [651287]), [])]
def b_X0_numbers_22 : List (ev_I × List (Nat × Nat)) := [((.nop, 0, [1, 0, 1, 2]), []), ((.aconst_null, 1, []), []), ((.nop, 0, [0, 651287]), [])]
def b_X0_numbers_23 : List (ev_I × List (Nat × Nat)) := [((.nop, 0, [1, 0, 1, 2]), []), ((.areturn, 1, []), [])]
def tb_X0_numbers : List (Nat × List (ev_I × List (Nat × Nat))) := [(0, b_X0_numbers_0), (22, b_X0_numbers_22), (23, b_X0_numbers_23)]
def b_X7_isAlike_0 : List (ev_I × List (Nat × Nat)) := [((.aload_n 0, 1, []), []), ((.getfield 17, 3, [0, 0, 0, 6]), []), ((.aload_n 1, 1, []), []), ((.getfield 17, 3, [0, 0, 0, 6]), []), ((.if_icmp .ne 40, 3, [655408]), []), ((.aload_n 0, 1, []), []), ((.getfield 21, 3, [0, 0, 1, 6]), []), ((.aload_n 1, 1, []), []), ((.getfield 21, 3, [0, 0, 1, 6]), []), ((.if_icmp .ne 29, 3, [655408]), []), ((.aload_n 0, 1, []), []), ((.getfield 24, 3, [0, 0, 2, 6]), []), ((.aload_n 1, 1, []), []), ((.getfield 24, 3, [0, 0, 2, 6]), []), ((.if_icmp .ne 18, 3, [655408]), []), ((.aload_n 0, 1, []), []), ((.getfield 27, 3, [0, 0, 3, 6]), []), ((.aload_n 1, 1, []), []), ((.getfield 27, 3, [0, 0, 3, 6]), []), ((.if_icmp .ne 7, 3, [655408]), []), ((.iconst 1, 1, []), []), ((.goto 4, 3, [655409]), [])]
def b_X7_isAlike_48 : List (ev_I × List (Nat × Nat)) := [((.nop, 0, [1, 0, 1]), []), ((.iconst 0, 1, []), []), ((.nop, 0, [0, 655409]), [])]
def b_X7_isAlike_49 : List (ev_I × List (Nat × Nat)) := [((.nop, 0, [1, 0, 1]), []), ((.ireturn, 1, [5]), [])]
def tb_X7_isAlike : List (Nat × List (ev_I × List (Nat × Nat))) := [(0, b_X7_isAlike_0), (48, b_X7_isAlike_48), (49, b_X7_isAlike_49)]
def b_X6_gathers_0 : List (ev_I × List (Nat × Nat)) := [((.aload_n 0, 1, []), []), ((.iconst 0, 1, []), []), ((.invokevirtual 74, 3, [2, 5, 134]), []), ((.astore_n 2, 1, []), []), ((.aload_n 0, 1, []), []), ((.iconst 2, 1, []), []), ((.invokevirtual 74, 3, [2, 5, 134]), []), ((.astore_n 3, 1, []), []), ((.aload_n 0, 1, []), []), ((.getfield 39, 3, [0, 4, 0, 5]), []), ((.getfield 81, 3, [1, 0, 1, 3]), []), ((.ifCond .eq 26, 3, [659501]), []), ((.aload_n 2, 1, []), []), ((.aload_n 0, 1, []), []), ((.iconst 1, 1, []), []), ((.invokevirtual 74, 3, [2, 5, 134]), []), ((.invokevirtual 84, 3, [2, 6, 160]), []), ((.ifCond .eq 14, 3, [659501]), []), ((.aload_n 3, 1, []), []), ((.getfield 78, 3, [1, 0, 0, 6]), []), ((.aload_n 2, 1, []), []), ((.getfield 78, 3, [1, 0, 0, 6]), []), ((.if_icmp .ne 5, 3, [659503]), []), ((.nop, 0, [0, 659501]), [])]
def b_X6_gathers_45 : List (ev_I × List (Nat × Nat)) := [((.nop, 0, [1, 0, 1, 2, 3, 4, 5, 6]), []), ((.iconst 0, 1, []), []), ((.ireturn, 1, []), [])]
def b_X6_gathers_47 : List (ev_I × List (Nat × Nat)) := [((.iconst 0, 1, []), []), ((.istore 4, 2, []), []), ((.aload_n 3, 1, []), []), ((.getfield 78, 3, [1, 0, 0, 6]), []), ((.iconst (-1), 1, []), []), ((.if_icmp .eq 36, 3, [659547]), []), ((.aload_n 0, 1, []), []), ((.getfield 3, 3, [0, 4, 7, 5]), []), ((.aload_n 3, 1, []), []), ((.getfield 78, 3, [1, 0, 0, 6]), []), ((.invokevirtual 88, 3, [2, 1, 159]), []), ((.ifnonnull 5, 3, [659530]), []), ((.iconst 0, 1, []), []), ((.ireturn, 1, []), [])]
def b_X6_gathers_74 : List (ev_I × List (Nat × Nat)) := [((.aload_n 0, 1, []), []), ((.getfield 3, 3, [0, 4, 7, 5]), []), ((.getfield 62, 3, [1, 4, 2, 1]), []), ((.aload_n 3, 1, []), []), ((.getfield 78, 3, [1, 0, 0, 6]), []), ((.aaload, 1, []), []), ((.getfield 92, 3, [1, 0, 1, 4]), []), ((.istore 4, 2, []), []), ((.nop, 0, [0, 659547]), [])]
def b_X6_gathers_91 : List (ev_I × List (Nat × Nat)) := [((.nop, 0, [1, 2, 3, 5, 6]), []), ((.aload_n 0, 1, []), []), ((.getfield 39, 3, [0, 4, 0, 5]), []), ((.getfield 81, 3, [1, 0, 1, 3]), []), ((.i2l, 1, []), []), ((.ldc2_w 95, 3, [0, 0, 3]), []), ((.ldc2_w 97, 3, [0, 0, 4]), []), ((.invokestatic 99, 3, [43, 3]), []), ((.istore 5, 2, []), []), ((.iload_n 1, 1, []), []), ((.iconst 1, 1, []), []), ((.if_icmp .gt 28, 3, [659596]), []), ((.iload 4, 2, []), []), ((.iconst 1, 1, []), []), ((.if_icmp .gt 18, 3, [659592]), []), ((.iload 5, 2, []), []), ((.ifCond .eq 9, 3, [659588]), []), ((.iload 4, 2, []), []), ((.iload_n 1, 1, []), []), ((.if_icmp .gt 7, 3, [659592]), []), ((.nop, 0, [0, 659588]), [])]
def b_X6_gathers_132 : List (ev_I × List (Nat × Nat)) := [((.nop, 0, [1, 1, 2, 3, 4, 5, 6]), []), ((.iconst 1, 1, []), []), ((.goto 23, 3, [659612]), [])]
def b_X6_gathers_136 : List (ev_I × List (Nat × Nat)) := [((.nop, 0, [1, 1, 2, 3, 4, 5, 6]), []), ((.iconst 0, 1, []), []), ((.goto 19, 3, [659612]), [])]
def b_X6_gathers_140 : List (ev_I × List (Nat × Nat)) := [((.iload 5, 2, []), []), ((.ifCond .eq 13, 3, [659611]), []), ((.iload 4, 2, []), []), ((.iload_n 1, 1, []), []), ((.if_icmp .gt 7, 3, [659611]), []), ((.iconst 1, 1, []), []), ((.goto 4, 3, [659612]), [])]
def b_X6_gathers_155 : List (ev_I × List (Nat × Nat)) := [((.nop, 0, [1, 1, 2, 3, 4, 5, 6]), []), ((.iconst 0, 1, []), []), ((.nop, 0, [0, 659612]), [])]
def b_X6_gathers_156 : List (ev_I × List (Nat × Nat)) := [((.nop, 0, [1, 1, 2, 3, 4, 5, 6]), []), ((.istore 6, 2, []), []), ((.iload 6, 2, []), []), ((.ifCond .eq 13, 3, [659629]), []), ((.aload_n 0, 1, []), []), ((.getfield 39, 3, [0, 4, 0, 5]), []), ((.getfield 81, 3, [1, 0, 1, 3]), []), ((.goto 4, 3, [659630]), [])]
def b_X6_gathers_173 : List (ev_I × List (Nat × Nat)) := [((.iconst 0, 1, []), []), ((.nop, 0, [0, 659630]), [])]
def b_X6_gathers_174 : List (ev_I × List (Nat × Nat)) := [((.nop, 0, [1, 0, 1, 2, 3, 4, 5, 6]), []), ((.ireturn, 1, []), [])]
def tb_X6_gathers : List (Nat × List (ev_I × List (Nat × Nat))) := [(0, b_X6_gathers_0), (45, b_X6_gathers_45), (47, b_X6_gathers_47), (74, b_X6_gathers_74), (91, b_X6_gathers_91), (132, b_X6_gathers_132), (136, b_X6_gathers_136), (140, b_X6_gathers_140), (155, b_X6_gathers_155), (156, b_X6_gathers_156), (173, b_X6_gathers_173), (174, b_X6_gathers_174)]
def b_X6_family_0 : List (ev_I × List (Nat × Nat)) := [((.aload_n 0, 1, []), []), ((.getfield 3, 3, [0, 4, 7, 5]), []), ((.aload_n 0, 1, []), []), ((.iconst 0, 1, []), []), ((.invokevirtual 74, 3, [2, 5, 134]), []), ((.getfield 78, 3, [1, 0, 0, 6]), []), ((.invokevirtual 88, 3, [2, 1, 159]), []), ((.astore_n 1, 1, []), []), ((.aload_n 1, 1, []), []), ((.ifnonnull 7, 3, [663576]), []), ((.iconst 0, 1, []), []), ((.goto 11, 3, [663584]), [])]
def b_X6_family_24 : List (ev_I × List (Nat × Nat)) := [((.aload_n 0, 1, []), []), ((.aload_n 1, 1, []), []), ((.getfield 92, 3, [1, 0, 1, 4]), []), ((.invokevirtual 103, 3, [2, 5, 161]), []), ((.nop, 0, [0, 663584]), [])]
def b_X6_family_32 : List (ev_I × List (Nat × Nat)) := [((.nop, 0, [1, 0, 1]), []), ((.ireturn, 1, []), [])]
def tb_X6_family : List (Nat × List (ev_I × List (Nat × Nat))) := [(0, b_X6_family_0), (24, b_X6_family_24), (32, b_X6_family_32)]
def b_X6_lambda_new_0_0 : List (ev_I × List (Nat × Nat)) := [((.iconst 1, 1, []), []), ((.ireturn, 1, [5]), [])]
def tb_X6_lambda_new_0 : List (Nat × List (ev_I × List (Nat × Nat))) := [(0, b_X6_lambda_new_0_0)]
def b_X6_lambda_waits_1_0 : List (ev_I × List (Nat × Nat)) := [((.iload_n 2, 1, []), []), ((.iload_n 0, 1, []), []), ((.irem, 1, []), []), ((.iload_n 1, 1, []), []), ((.if_icmp .ne 7, 3, [671755]), []), ((.iconst 1, 1, []), []), ((.goto 4, 3, [671756]), [])]
def b_X6_lambda_waits_1_11 : List (ev_I × List (Nat × Nat)) := [((.iconst 0, 1, []), []), ((.nop, 0, [0, 671756]), [])]
def b_X6_lambda_waits_1_12 : List (ev_I × List (Nat × Nat)) := [((.nop, 0, [1, 0, 1, 2]), []), ((.ireturn, 1, [5]), [])]
def tb_X6_lambda_waits_1 : List (Nat × List (ev_I × List (Nat × Nat))) := [(0, b_X6_lambda_waits_1_0), (11, b_X6_lambda_waits_1_11), (12, b_X6_lambda_waits_1_12)]
def b_X4_has_0 : List (ev_I × List (Nat × Nat)) := [((.iload_n 1, 1, []), []), ((.i2l, 1, []), []), ((.lconst 0, 1, []), []), ((.aload_n 0, 1, []), []), ((.getfield 23, 3, [0, 0, 2, 4]), []), ((.iconst 1, 1, []), []), ((.isub, 1, []), []), ((.i2l, 1, []), []), ((.invokestatic 30, 3, [43, 3]), []), ((.ireturn, 1, [5]), [])]
def tb_X4_has : List (Nat × List (ev_I × List (Nat × Nat))) := [(0, b_X4_has_0)]
def b_X4_isTrue_0 : List (ev_I × List (Nat × Nat)) := [((.aload_n 0, 1, []), []), ((.getfield 9, 3, [0, 0, 1, 4]), []), ((.iconst 4, 1, []), []), ((.if_icmp .ne 27, 3, [679968]), []), ((.aload_n 0, 1, []), []), ((.iload_n 1, 1, []), []), ((.invokevirtual 58, 3, [2, 4, 165]), []), ((.ifCond .eq 19, 3, [679968]), []), ((.aload_n 0, 1, []), []), ((.getfield 19, 3, [0, 4, 0, 4]), []), ((.checkcast 44, 3, [1, 44]), []), ((.iload_n 1, 1, []), []), ((.baload, 1, []), []), ((.ifCond .eq 7, 3, [679968]), []), ((.iconst 1, 1, []), []), ((.goto 4, 3, [679969]), [])]
def b_X4_isTrue_32 : List (ev_I × List (Nat × Nat)) := [((.nop, 0, [1, 0, 1]), []), ((.iconst 0, 1, []), []), ((.nop, 0, [0, 679969]), [])]
def b_X4_isTrue_33 : List (ev_I × List (Nat × Nat)) := [((.nop, 0, [1, 0, 1]), []), ((.ireturn, 1, [5]), [])]
def tb_X4_isTrue : List (Nat × List (ev_I × List (Nat × Nat))) := [(0, b_X4_isTrue_0), (32, b_X4_isTrue_32), (33, b_X4_isTrue_33)]
def b_X6_isDone_0 : List (ev_I × List (Nat × Nat)) := [((.aload_n 0, 1, []), []), ((.getfield 35, 3, [0, 4, 6, 5]), []), ((.iload_n 1, 1, []), []), ((.invokeinterface 57 2, 5, [1, 2, 0, 132, 137]), []), ((.ifCond .eq 49, 3, [684091]), []), ((.aload_n 0, 1, []), []), ((.getfield 28, 3, [0, 0, 5, 5]), []), ((.iconst (-1), 1, []), []), ((.if_icmp .eq 37, 3, [684087]), []), ((.aload_n 0, 1, []), []), ((.getfield 3, 3, [0, 4, 7, 5]), []), ((.getfield 62, 3, [1, 4, 2, 1]), []), ((.aload_n 0, 1, []), []), ((.getfield 28, 3, [0, 0, 5, 5]), []), ((.aaload, 1, []), []), ((.ifnull 26, 3, [684091]), []), ((.aload_n 0, 1, []), []), ((.getfield 3, 3, [0, 4, 7, 5]), []), ((.getfield 62, 3, [1, 4, 2, 1]), []), ((.aload_n 0, 1, []), []), ((.getfield 28, 3, [0, 0, 5, 5]), []), ((.aaload, 1, []), []), ((.iload_n 1, 1, []), []), ((.invokevirtual 66, 3, [2, 4, 166]), []), ((.ifCond .eq 7, 3, [684091]), []), ((.nop, 0, [0, 684087]), [])]
def b_X6_isDone_55 : List (ev_I × List (Nat × Nat)) := [((.nop, 0, [1, 0, 1]), []), ((.iconst 1, 1, []), []), ((.goto 4, 3, [684092]), [])]
def b_X6_isDone_59 : List (ev_I × List (Nat × Nat)) := [((.nop, 0, [1, 0, 1]), []), ((.iconst 0, 1, []), []), ((.nop, 0, [0, 684092]), [])]
def b_X6_isDone_60 : List (ev_I × List (Nat × Nat)) := [((.nop, 0, [1, 0, 1]), []), ((.ireturn, 1, [5]), [])]
def tb_X6_isDone : List (Nat × List (ev_I × List (Nat × Nat))) := [(0, b_X6_isDone_0), (55, b_X6_isDone_55), (59, b_X6_isDone_59), (60, b_X6_isDone_60)]
def b_X6_doneIn_0 : List (ev_I × List (Nat × Nat)) := [((.iconst 0, 1, []), []), ((.istore_n 1, 1, []), []), ((.iconst 0, 1, []), []), ((.istore_n 2, 1, []), []), ((.nop, 0, [0, 688132]), [])]
def b_X6_doneIn_4 : List (ev_I × List (Nat × Nat)) := [((.iload_n 2, 1, []), []), ((.aload_n 0, 1, []), []), ((.getfield 3, 3, [0, 4, 7, 5]), []), ((.getfield 107, 3, [1, 0, 4, 1]), []), ((.if_icmp .ge 25, 3, [688165]), []), ((.iload_n 1, 1, []), []), ((.aload_n 0, 1, []), []), ((.iload_n 2, 1, []), []), ((.invokevirtual 110, 3, [2, 5, 167]), []), ((.ifCond .eq 7, 3, [688156]), []), ((.iconst 1, 1, []), []), ((.goto 4, 3, [688157]), [])]
def b_X6_doneIn_28 : List (ev_I × List (Nat × Nat)) := [((.iconst 0, 1, []), []), ((.nop, 0, [0, 688157]), [])]
def b_X6_doneIn_29 : List (ev_I × List (Nat × Nat)) := [((.nop, 0, [1, 1]), []), ((.iadd, 1, []), []), ((.istore_n 1, 1, []), []), ((.iinc 2 1, 3, []), []), ((.goto (-30), 3, [688132]), [])]
def b_X6_doneIn_37 : List (ev_I × List (Nat × Nat)) := [((.iload_n 1, 1, []), []), ((.ireturn, 1, []), [])]
def tb_X6_doneIn : List (Nat × List (ev_I × List (Nat × Nat))) := [(0, b_X6_doneIn_0), (4, b_X6_doneIn_4), (28, b_X6_doneIn_28), (29, b_X6_doneIn_29), (37, b_X6_doneIn_37)]
def b_X6_tells_0 : List (ev_I × List (Nat × Nat)) := [((.iload_n 1, 1, []), []), ((.tableswitch 84 0 5 #[39, 49, 56, 63, 70, 77], 39, [692309, 692264, 692274, 692281, 692288, 692295, 692302]), [])]
def b_X6_tells_40 : List (ev_I × List (Nat × Nat)) := [((.aload_n 0, 1, []), []), ((.getfield 39, 3, [0, 4, 0, 5]), []), ((.getfield 52, 3, [1, 0, 0, 3]), []), ((.goto 42, 3, [692313]), [])]
def b_X6_tells_50 : List (ev_I × List (Nat × Nat)) := [((.aload_n 0, 1, []), []), ((.getfield 43, 3, [0, 0, 1, 5]), []), ((.goto 35, 3, [692313]), [])]
def b_X6_tells_57 : List (ev_I × List (Nat × Nat)) := [((.aload_n 0, 1, []), []), ((.getfield 24, 3, [0, 0, 3, 5]), []), ((.goto 28, 3, [692313]), [])]
def b_X6_tells_64 : List (ev_I × List (Nat × Nat)) := [((.aload_n 0, 1, []), []), ((.getfield 46, 3, [0, 0, 4, 5]), []), ((.goto 21, 3, [692313]), [])]
def b_X6_tells_71 : List (ev_I × List (Nat × Nat)) := [((.aload_n 0, 1, []), []), ((.getfield 28, 3, [0, 0, 5, 5]), []), ((.goto 14, 3, [692313]), [])]
def b_X6_tells_78 : List (ev_I × List (Nat × Nat)) := [((.aload_n 0, 1, []), []), ((.invokevirtual 113, 3, [1, 5, 162]), []), ((.goto 7, 3, [692313]), [])]
def b_X6_tells_85 : List (ev_I × List (Nat × Nat)) := [((.aload_n 0, 1, []), []), ((.invokevirtual 116, 3, [1, 5, 168]), []), ((.nop, 0, [0, 692313]), [])]
def b_X6_tells_89 : List (ev_I × List (Nat × Nat)) := [((.nop, 0, [1, 0, 1]), []), ((.ireturn, 1, []), [])]
def tb_X6_tells : List (Nat × List (ev_I × List (Nat × Nat))) := [(0, b_X6_tells_0), (40, b_X6_tells_40), (50, b_X6_tells_50), (57, b_X6_tells_57), (64, b_X6_tells_64), (71, b_X6_tells_71), (78, b_X6_tells_78), (85, b_X6_tells_85), (89, b_X6_tells_89)]
def b_X0_info_0 : List (ev_I × List (Nat × Nat)) := [((.aload_n 0, 1, []), []), ((.iload_n 1, 1, []), []), ((.invokevirtual 221, 3, [2, 1, 128]), []), ((.ifCond .eq 33, 3, [696358]), []), ((.iload_n 2, 1, []), []), ((.i2l, 1, []), []), ((.lconst 0, 1, []), []), ((.ldc2_w 251, 3, [0, 0, 6]), []), ((.invokestatic 90, 3, [43, 3]), []), ((.ifCond .eq 21, 3, [696358]), []), ((.aload_n 0, 1, []), []), ((.getfield 34, 3, [0, 4, 3, 1]), []), ((.iload_n 1, 1, []), []), ((.invokevirtual 230, 3, [2, 18, 133]), []), ((.checkcast 209, 3, [1, 5]), []), ((.iload_n 2, 1, []), []), ((.invokevirtual 299, 3, [2, 5, 169]), []), ((.goto 5, 3, [696360]), [])]
def b_X0_info_38 : List (ev_I × List (Nat × Nat)) := [((.nop, 0, [1, 0, 1, 2]), []), ((.bipush (-2), 2, []), []), ((.nop, 0, [0, 696360]), [])]
def b_X0_info_40 : List (ev_I × List (Nat × Nat)) := [((.nop, 0, [1, 0, 1, 2]), []), ((.ireturn, 1, []), [])]
def tb_X0_info : List (Nat × List (ev_I × List (Nat × Nat))) := [(0, b_X0_info_0), (38, b_X0_info_38), (40, b_X0_info_40)]
def b_X3_formAs_0 : List (ev_I × List (Nat × Nat)) := [((.iload_n 1, 1, []), []), ((.iload_n 2, 1, []), []), ((.if_icmp .ne 7, 3, [700425]), []), ((.iload_n 3, 1, []), []), ((.goto 9, 3, [700431]), [])]
def b_X3_formAs_9 : List (ev_I × List (Nat × Nat)) := [((.aload_n 0, 1, []), []), ((.getfield 7, 3, [0, 4, 0, 2]), []), ((.iload_n 1, 1, []), []), ((.iaload, 1, []), []), ((.nop, 0, [0, 700431]), [])]
def b_X3_formAs_15 : List (ev_I × List (Nat × Nat)) := [((.nop, 0, [1, 0, 1, 2, 3]), []), ((.ireturn, 1, []), [])]
def tb_X3_formAs : List (Nat × List (ev_I × List (Nat × Nat))) := [(0, b_X3_formAs_0), (9, b_X3_formAs_9), (15, b_X3_formAs_15)]
def b_X3_isNumbers_0 : List (ev_I × List (Nat × Nat)) := [((.iload_n 0, 1, []), []), ((.iconst 0, 1, []), []), ((.iconst 3, 1, []), []), ((.invokestatic 114, 3, [49, 3]), []), ((.ireturn, 1, [5]), [])]
def tb_X3_isNumbers : List (Nat × List (ev_I × List (Nat × Nat))) := [(0, b_X3_isNumbers_0)]
def b_X3_familyAs_0 : List (ev_I × List (Nat × Nat)) := [((.aload_n 0, 1, []), []), ((.getfield 41, 3, [0, 4, 13, 2]), []), ((.iconst 3, 1, []), []), ((.iload_n 1, 1, []), []), ((.imul, 1, []), []), ((.iaload, 1, []), []), ((.istore 4, 2, []), []), ((.aload_n 0, 1, []), []), ((.getfield 41, 3, [0, 4, 13, 2]), []), ((.iconst 3, 1, []), []), ((.iload_n 1, 1, []), []), ((.imul, 1, []), []), ((.iconst 2, 1, []), []), ((.iadd, 1, []), []), ((.iaload, 1, []), []), ((.istore 5, 2, []), []), ((.aload_n 0, 1, []), []), ((.getfield 41, 3, [0, 4, 13, 2]), []), ((.iconst 3, 1, []), []), ((.iload_n 1, 1, []), []), ((.imul, 1, []), []), ((.iconst 1, 1, []), []), ((.iadd, 1, []), []), ((.iaload, 1, []), []), ((.iload 4, 2, []), []), ((.if_icmp .ne 70, 3, [708712]), []), ((.aload_n 0, 1, []), []), ((.getfield 44, 3, [0, 4, 14, 2]), []), ((.iconst 3, 1, []), []), ((.iload_n 1, 1, []), []), ((.imul, 1, []), []), ((.iaload, 1, []), []), ((.aload_n 0, 1, []), []), ((.getfield 44, 3, [0, 4, 14, 2]), []), ((.iconst 3, 1, []), []), ((.iload_n 1, 1, []), []), ((.imul, 1, []), []), ((.iconst 1, 1, []), []), ((.iadd, 1, []), []), ((.iaload, 1, []), []), ((.if_icmp .ne 49, 3, [708712]), []), ((.aload_n 0, 1, []), []), ((.getfield 47, 3, [0, 4, 15, 2]), []), ((.iconst 3, 1, []), []), ((.iload_n 1, 1, []), []), ((.imul, 1, []), []), ((.iaload, 1, []), []), ((.aload_n 0, 1, []), []), ((.getfield 47, 3, [0, 4, 15, 2]), []), ((.iconst 3, 1, []), []), ((.iload_n 1, 1, []), []), ((.imul, 1, []), []), ((.iconst 1, 1, []), []), ((.iadd, 1, []), []), ((.iaload, 1, []), []), ((.if_icmp .ne 28, 3, [708712]), []), ((.aload_n 0, 1, []), []), ((.getfield 50, 3, [0, 4, 16, 2]), []), ((.iconst 3, 1, []), []), ((.iload_n 1, 1, []), []), ((.imul, 1, []), []), ((.iaload, 1, []), []), ((.aload_n 0, 1, []), []), ((.getfield 50, 3, [0, 4, 16, 2]), []), ((.iconst 3, 1, []), []), ((.iload_n 1, 1, []), []), ((.imul, 1, []), []), ((.iconst 1, 1, []), []), ((.iadd, 1, []), []), ((.iaload, 1, []), []), ((.if_icmp .ne 7, 3, [708712]), []), ((.iconst 1, 1, []), []), ((.goto 4, 3, [708713]), [])]
def b_X3_familyAs_104 : List (ev_I × List (Nat × Nat)) := [((.nop, 0, [1, 6, 7, 8, 9, 10]), []), ((.iconst 0, 1, []), []), ((.nop, 0, [0, 708713]), [])]
def b_X3_familyAs_105 : List (ev_I × List (Nat × Nat)) := [((.nop, 0, [1, 6, 7, 8, 9, 10]), []), ((.istore 6, 2, []), []), ((.aload_n 0, 1, []), []), ((.iload 4, 2, []), []), ((.iload_n 2, 1, []), []), ((.iload_n 3, 1, []), []), ((.invokevirtual 181, 3, [4, 2, 171]), []), ((.istore 7, 2, []), []), ((.iload 5, 2, []), []), ((.iconst (-1), 1, []), []), ((.if_icmp .ne 7, 3, [708735]), []), ((.iconst 1, 1, []), []), ((.goto 11, 3, [708743]), [])]
def b_X3_familyAs_127 : List (ev_I × List (Nat × Nat)) := [((.aload_n 0, 1, []), []), ((.iload 5, 2, []), []), ((.iload_n 2, 1, []), []), ((.iload_n 3, 1, []), []), ((.invokevirtual 181, 3, [4, 2, 171]), []), ((.nop, 0, [0, 708743]), [])]
def b_X3_familyAs_135 : List (ev_I × List (Nat × Nat)) := [((.nop, 0, [1, 2, 3, 8, 9, 10]), []), ((.istore 8, 2, []), []), ((.iload 6, 2, []), []), ((.ifCond .eq 26, 3, [708773]), []), ((.iload 7, 2, []), []), ((.invokestatic 185, 3, [172, 1]), []), ((.ifCond .eq 18, 3, [708773]), []), ((.iload 8, 2, []), []), ((.invokestatic 185, 3, [172, 1]), []), ((.ifCond .eq 10, 3, [708773]), []), ((.iload 5, 2, []), []), ((.iload 4, 2, []), []), ((.if_icmp .ne 5, 3, [708775]), []), ((.nop, 0, [0, 708773]), [])]
def b_X3_familyAs_165 : List (ev_I × List (Nat × Nat)) := [((.nop, 0, [1, 0, 1, 2, 3, 4, 5, 6, 7, 8, 9, 10]), []), ((.iconst 0, 1, []), []), ((.ireturn, 1, []), [])]
def b_X3_familyAs_167 : List (ev_I × List (Nat × Nat)) := [((.aload_n 0, 1, []), []), ((.getfield 26, 3, [0, 4, 8, 2]), []), ((.iload_n 1, 1, []), []), ((.iaload, 1, []), []), ((.istore 9, 2, []), []), ((.iload 9, 2, []), []), ((.iconst 4, 1, []), []), ((.if_icmp .eq 9, 3, [708795]), []), ((.iload 9, 2, []), []), ((.iconst 5, 1, []), []), ((.if_icmp .ne 7, 3, [708799]), []), ((.nop, 0, [0, 708795]), [])]
def b_X3_familyAs_187 : List (ev_I × List (Nat × Nat)) := [((.nop, 0, [1, 0, 1, 2, 3, 4, 6, 10]), []), ((.iconst 1, 1, []), []), ((.goto 4, 3, [708800]), [])]
def b_X3_familyAs_191 : List (ev_I × List (Nat × Nat)) := [((.iconst 0, 1, []), []), ((.nop, 0, [0, 708800]), [])]
def b_X3_familyAs_192 : List (ev_I × List (Nat × Nat)) := [((.nop, 0, [1, 0, 1, 2, 3, 4, 6, 10]), []), ((.istore 10, 2, []), []), ((.iload 7, 2, []), []), ((.iconst 1, 1, []), []), ((.if_icmp .le 29, 3, [708834]), []), ((.iload 10, 2, []), []), ((.ifCond .eq 22, 3, [708832]), []), ((.iload 7, 2, []), []), ((.iconst 3, 1, []), []), ((.if_icmp .eq 9, 3, [708825]), []), ((.iload 8, 2, []), []), ((.iconst 3, 1, []), []), ((.if_icmp .eq 10, 3, [708832]), []), ((.nop, 0, [0, 708825]), [])]
def b_X3_familyAs_217 : List (ev_I × List (Nat × Nat)) := [((.nop, 0, [1, 0, 1, 2, 3, 4, 5, 6, 7, 8, 10]), []), ((.iload 9, 2, []), []), ((.iconst 1, 1, []), []), ((.isub, 1, []), []), ((.goto 4, 3, [708833]), [])]
def b_X3_familyAs_224 : List (ev_I × List (Nat × Nat)) := [((.nop, 0, [1, 0, 1, 2, 3, 4, 5, 6, 7, 8, 9, 10]), []), ((.iconst 0, 1, []), []), ((.nop, 0, [0, 708833]), [])]
def b_X3_familyAs_225 : List (ev_I × List (Nat × Nat)) := [((.nop, 0, [1, 0, 1, 2, 3, 4, 5, 6, 7, 8, 9, 10]), []), ((.ireturn, 1, []), [])]
def b_X3_familyAs_226 : List (ev_I × List (Nat × Nat)) := [((.iload 8, 2, []), []), ((.iconst 1, 1, []), []), ((.if_icmp .gt 25, 3, [708862]), []), ((.iload 10, 2, []), []), ((.ifCond .eq 22, 3, [708864]), []), ((.iload 7, 2, []), []), ((.ifCond .ne 17, 3, [708864]), []), ((.iload 8, 2, []), []), ((.iconst 1, 1, []), []), ((.if_icmp .ne 11, 3, [708864]), []), ((.iload 5, 2, []), []), ((.iconst (-1), 1, []), []), ((.if_icmp .eq 5, 3, [708864]), []), ((.nop, 0, [0, 708862]), [])]
def b_X3_familyAs_254 : List (ev_I × List (Nat × Nat)) := [((.nop, 0, [1, 0, 1, 2, 3, 4, 5, 6, 7, 8, 9, 10]), []), ((.iconst 0, 1, []), []), ((.ireturn, 1, []), [])]
def b_X3_familyAs_256 : List (ev_I × List (Nat × Nat)) := [((.nop, 0, [1, 0, 1, 2, 3, 4, 5, 6, 7, 8, 10]), []), ((.iload 9, 2, []), []), ((.tableswitch 64 0 8 #[50, 50, 52, 64, 54, 54, 59, 59, 59], 50, [708930, 708916, 708916, 708918, 708930, 708920, 708920, 708925, 708925, 708925]), [])]
def b_X3_familyAs_308 : List (ev_I × List (Nat × Nat)) := [((.nop, 0, [1, 0, 1, 2, 3, 4, 5, 6, 7, 8, 9, 10]), []), ((.iconst 1, 1, []), []), ((.ireturn, 1, []), [])]
def b_X3_familyAs_310 : List (ev_I × List (Nat × Nat)) := [((.iconst 2, 1, []), []), ((.ireturn, 1, []), [])]
def b_X3_familyAs_312 : List (ev_I × List (Nat × Nat)) := [((.nop, 0, [1, 0, 1, 2, 3, 4, 5, 6, 7, 8, 10]), []), ((.iload 9, 2, []), []), ((.iconst 1, 1, []), []), ((.isub, 1, []), []), ((.ireturn, 1, []), [])]
def b_X3_familyAs_317 : List (ev_I × List (Nat × Nat)) := [((.nop, 0, [1, 0, 1, 2, 3, 4, 5, 6, 7, 8, 10]), []), ((.iload 9, 2, []), []), ((.iconst 1, 1, []), []), ((.isub, 1, []), []), ((.ireturn, 1, []), [])]
def b_X3_familyAs_322 : List (ev_I × List (Nat × Nat)) := [((.nop, 0, [1, 0, 1, 2, 3, 4, 5, 6, 7, 8, 9, 10]), []), ((.iconst 0, 1, []), []), ((.ireturn, 1, []), [])]
def tb_X3_familyAs : List (Nat × List (ev_I × List (Nat × Nat))) := [(0, b_X3_familyAs_0), (104, b_X3_familyAs_104), (105, b_X3_familyAs_105), (127, b_X3_familyAs_127), (135, b_X3_familyAs_135), (165, b_X3_familyAs_165), (167, b_X3_familyAs_167), (187, b_X3_familyAs_187), (191, b_X3_familyAs_191), (192, b_X3_familyAs_192), (217, b_X3_familyAs_217), (224, b_X3_familyAs_224), (225, b_X3_familyAs_225), (226, b_X3_familyAs_226), (254, b_X3_familyAs_254), (256, b_X3_familyAs_256), (308, b_X3_familyAs_308), (310, b_X3_familyAs_310), (312, b_X3_familyAs_312), (317, b_X3_familyAs_317), (322, b_X3_familyAs_322)]
def b_X3_isDone_0 : List (ev_I × List (Nat × Nat)) := [((.aload_n 0, 1, []), []), ((.getfield 38, 3, [0, 4, 12, 2]), []), ((.iload_n 1, 1, []), []), ((.iaload, 1, []), []), ((.istore_n 3, 1, []), []), ((.iload_n 3, 1, []), []), ((.iconst (-1), 1, []), []), ((.if_icmp .eq 39, 3, [712752]), []), ((.aload_n 0, 1, []), []), ((.getfield 7, 3, [0, 4, 0, 2]), []), ((.iload_n 3, 1, []), []), ((.iaload, 1, []), []), ((.iconst 4, 1, []), []), ((.if_icmp .ne 33, 3, [712756]), []), ((.iload_n 2, 1, []), []), ((.aload_n 0, 1, []), []), ((.getfield 13, 3, [0, 4, 1, 2]), []), ((.iload_n 3, 1, []), []), ((.iaload, 1, []), []), ((.if_icmp .ge 23, 3, [712756]), []), ((.aload_n 0, 1, []), []), ((.getfield 16, 3, [0, 4, 2, 2]), []), ((.bipush 24, 2, []), []), ((.iload_n 3, 1, []), []), ((.imul, 1, []), []), ((.iload_n 2, 1, []), []), ((.iadd, 1, []), []), ((.daload, 1, []), []), ((.dconst 0, 1, []), []), ((.dcmp .l, 1, []), []), ((.ifCond .eq 7, 3, [712756]), []), ((.nop, 0, [0, 712752]), [])]
def b_X3_isDone_48 : List (ev_I × List (Nat × Nat)) := [((.nop, 0, [1, 3, 4]), []), ((.iconst 1, 1, []), []), ((.goto 4, 3, [712757]), [])]
def b_X3_isDone_52 : List (ev_I × List (Nat × Nat)) := [((.nop, 0, [1, 3, 4]), []), ((.iconst 0, 1, []), []), ((.nop, 0, [0, 712757]), [])]
def b_X3_isDone_53 : List (ev_I × List (Nat × Nat)) := [((.nop, 0, [1, 3, 4]), []), ((.istore 4, 2, []), []), ((.iload 4, 2, []), []), ((.ifCond .eq 24, 3, [712785]), []), ((.iload_n 2, 1, []), []), ((.aload_n 0, 1, []), []), ((.getfield 32, 3, [0, 4, 10, 2]), []), ((.iload_n 1, 1, []), []), ((.iaload, 1, []), []), ((.irem, 1, []), []), ((.aload_n 0, 1, []), []), ((.getfield 35, 3, [0, 4, 11, 2]), []), ((.iload_n 1, 1, []), []), ((.iaload, 1, []), []), ((.if_icmp .ne 7, 3, [712785]), []), ((.iconst 1, 1, []), []), ((.goto 4, 3, [712786]), [])]
def b_X3_isDone_81 : List (ev_I × List (Nat × Nat)) := [((.nop, 0, [1, 0, 1, 2, 3, 4]), []), ((.iconst 0, 1, []), []), ((.nop, 0, [0, 712786]), [])]
def b_X3_isDone_82 : List (ev_I × List (Nat × Nat)) := [((.nop, 0, [1, 0, 1, 2, 3, 4]), []), ((.ireturn, 1, [5]), [])]
def tb_X3_isDone : List (Nat × List (ev_I × List (Nat × Nat))) := [(0, b_X3_isDone_0), (48, b_X3_isDone_48), (52, b_X3_isDone_52), (53, b_X3_isDone_53), (81, b_X3_isDone_81), (82, b_X3_isDone_82)]
def b_X3_doneMany_0 : List (ev_I × List (Nat × Nat)) := [((.iconst 0, 1, []), []), ((.istore_n 2, 1, []), []), ((.iconst 0, 1, []), []), ((.istore_n 3, 1, []), []), ((.nop, 0, [0, 716804]), [])]
def b_X3_doneMany_4 : List (ev_I × List (Nat × Nat)) := [((.iload_n 3, 1, []), []), ((.aload_n 0, 1, []), []), ((.getfield 154, 3, [0, 0, 6, 2]), []), ((.if_icmp .ge 26, 3, [716835]), []), ((.iload_n 2, 1, []), []), ((.aload_n 0, 1, []), []), ((.iload_n 1, 1, []), []), ((.iload_n 3, 1, []), []), ((.invokevirtual 177, 3, [3, 2, 174]), []), ((.ifCond .eq 7, 3, [716826]), []), ((.iconst 1, 1, []), []), ((.goto 4, 3, [716827]), [])]
def b_X3_doneMany_26 : List (ev_I × List (Nat × Nat)) := [((.iconst 0, 1, []), []), ((.nop, 0, [0, 716827]), [])]
def b_X3_doneMany_27 : List (ev_I × List (Nat × Nat)) := [((.nop, 0, [1, 2]), []), ((.iadd, 1, []), []), ((.istore_n 2, 1, []), []), ((.iinc 3 1, 3, []), []), ((.goto (-28), 3, [716804]), [])]
def b_X3_doneMany_35 : List (ev_I × List (Nat × Nat)) := [((.iload_n 2, 1, []), []), ((.ireturn, 1, []), [])]
def tb_X3_doneMany : List (Nat × List (ev_I × List (Nat × Nat))) := [(0, b_X3_doneMany_0), (4, b_X3_doneMany_4), (26, b_X3_doneMany_26), (27, b_X3_doneMany_27), (35, b_X3_doneMany_35)]
def b_X3_infoOf_0 : List (ev_I × List (Nat × Nat)) := [((.iload_n 2, 1, []), []), ((.tableswitch 82 0 5 #[39, 46, 53, 60, 67, 74], 39, [720979, 720936, 720943, 720950, 720957, 720964, 720971]), [])]
def b_X3_infoOf_40 : List (ev_I × List (Nat × Nat)) := [((.aload_n 0, 1, []), []), ((.getfield 26, 3, [0, 4, 8, 2]), []), ((.iload_n 1, 1, []), []), ((.iaload, 1, []), []), ((.ireturn, 1, []), [])]
def b_X3_infoOf_47 : List (ev_I × List (Nat × Nat)) := [((.aload_n 0, 1, []), []), ((.getfield 29, 3, [0, 4, 9, 2]), []), ((.iload_n 1, 1, []), []), ((.iaload, 1, []), []), ((.ireturn, 1, []), [])]
def b_X3_infoOf_54 : List (ev_I × List (Nat × Nat)) := [((.aload_n 0, 1, []), []), ((.getfield 32, 3, [0, 4, 10, 2]), []), ((.iload_n 1, 1, []), []), ((.iaload, 1, []), []), ((.ireturn, 1, []), [])]
def b_X3_infoOf_61 : List (ev_I × List (Nat × Nat)) := [((.aload_n 0, 1, []), []), ((.getfield 35, 3, [0, 4, 11, 2]), []), ((.iload_n 1, 1, []), []), ((.iaload, 1, []), []), ((.ireturn, 1, []), [])]
def b_X3_infoOf_68 : List (ev_I × List (Nat × Nat)) := [((.aload_n 0, 1, []), []), ((.getfield 38, 3, [0, 4, 12, 2]), []), ((.iload_n 1, 1, []), []), ((.iaload, 1, []), []), ((.ireturn, 1, []), [])]
def b_X3_infoOf_75 : List (ev_I × List (Nat × Nat)) := [((.aload_n 0, 1, []), []), ((.iload_n 1, 1, []), []), ((.iconst (-1), 1, []), []), ((.iconst 0, 1, []), []), ((.invokevirtual 188, 3, [4, 2, 173]), []), ((.ireturn, 1, []), [])]
def b_X3_infoOf_83 : List (ev_I × List (Nat × Nat)) := [((.aload_n 0, 1, []), []), ((.iload_n 1, 1, []), []), ((.invokevirtual 191, 3, [2, 2, 175]), []), ((.ireturn, 1, []), [])]
def tb_X3_infoOf : List (Nat × List (ev_I × List (Nat × Nat))) := [(0, b_X3_infoOf_0), (40, b_X3_infoOf_40), (47, b_X3_infoOf_47), (54, b_X3_infoOf_54), (61, b_X3_infoOf_61), (68, b_X3_infoOf_68), (75, b_X3_infoOf_75), (83, b_X3_infoOf_83)]
def b_X3_info_0 : List (ev_I × List (Nat × Nat)) := [((.aload_n 0, 1, []), []), ((.iload_n 1, 1, []), []), ((.invokevirtual 174, 3, [2, 2, 136]), []), ((.ifCond .eq 22, 3, [725019]), []), ((.iload_n 2, 1, []), []), ((.iconst 0, 1, []), []), ((.bipush 6, 2, []), []), ((.invokestatic 114, 3, [49, 3]), []), ((.ifCond .eq 12, 3, [725019]), []), ((.aload_n 0, 1, []), []), ((.iload_n 1, 1, []), []), ((.iload_n 2, 1, []), []), ((.invokevirtual 194, 3, [3, 2, 176]), []), ((.goto 5, 3, [725021]), [])]
def b_X3_info_27 : List (ev_I × List (Nat × Nat)) := [((.nop, 0, [1, 0, 1, 2]), []), ((.bipush (-2), 2, []), []), ((.nop, 0, [0, 725021]), [])]
def b_X3_info_29 : List (ev_I × List (Nat × Nat)) := [((.nop, 0, [1, 0, 1, 2]), []), ((.ireturn, 1, []), [])]
def tb_X3_info : List (Nat × List (ev_I × List (Nat × Nat))) := [(0, b_X3_info_0), (27, b_X3_info_27), (29, b_X3_info_29)]
def b_X7_tells_0 : List (ev_I × List (Nat × Nat)) := [((.iload_n 1, 1, []), []), ((.tableswitch 48 0 2 #[27, 34, 41], 27, [729137, 729116, 729123, 729130]), [])]
def b_X7_tells_28 : List (ev_I × List (Nat × Nat)) := [((.aload_n 0, 1, []), []), ((.getfield 17, 3, [0, 0, 0, 6]), []), ((.goto 21, 3, [729141]), [])]
def b_X7_tells_35 : List (ev_I × List (Nat × Nat)) := [((.aload_n 0, 1, []), []), ((.getfield 21, 3, [0, 0, 1, 6]), []), ((.goto 14, 3, [729141]), [])]
def b_X7_tells_42 : List (ev_I × List (Nat × Nat)) := [((.aload_n 0, 1, []), []), ((.getfield 24, 3, [0, 0, 2, 6]), []), ((.goto 7, 3, [729141]), [])]
def b_X7_tells_49 : List (ev_I × List (Nat × Nat)) := [((.aload_n 0, 1, []), []), ((.getfield 27, 3, [0, 0, 3, 6]), []), ((.nop, 0, [0, 729141]), [])]
def b_X7_tells_53 : List (ev_I × List (Nat × Nat)) := [((.nop, 0, [1, 0, 1]), []), ((.ireturn, 1, []), [])]
def tb_X7_tells : List (Nat × List (ev_I × List (Nat × Nat))) := [(0, b_X7_tells_0), (28, b_X7_tells_28), (35, b_X7_tells_35), (42, b_X7_tells_42), (49, b_X7_tells_49), (53, b_X7_tells_53)]
def b_X0_reference_0 : List (ev_I × List (Nat × Nat)) := [((.aload_n 0, 1, []), []), ((.iload_n 1, 1, []), []), ((.iload_n 2, 1, []), []), ((.invokevirtual 226, 3, [3, 1, 129]), []), ((.ifCond .eq 37, 3, [733227]), []), ((.iload_n 3, 1, []), []), ((.i2l, 1, []), []), ((.lconst 0, 1, []), []), ((.ldc2_w 301, 3, [0, 0, 3]), []), ((.invokestatic 90, 3, [43, 3]), []), ((.ifCond .eq 25, 3, [733227]), []), ((.aload_n 0, 1, []), []), ((.getfield 34, 3, [0, 4, 3, 1]), []), ((.iload_n 1, 1, []), []), ((.invokevirtual 230, 3, [2, 18, 133]), []), ((.checkcast 209, 3, [1, 5]), []), ((.iload_n 2, 1, []), []), ((.invokevirtual 233, 3, [2, 5, 134]), []), ((.iload_n 3, 1, []), []), ((.invokevirtual 303, 3, [2, 6, 178]), []), ((.goto 6, 3, [733230]), [])]
def b_X0_reference_43 : List (ev_I × List (Nat × Nat)) := [((.nop, 0, [1, 0, 1, 2, 3]), []), ((.ldc_w 304, 3, [0, 1, 2147483648]), []), ((.nop, 0, [0, 733230]), [])]
def b_X0_reference_46 : List (ev_I × List (Nat × Nat)) := [((.nop, 0, [1, 0, 1, 2, 3]), []), ((.ireturn, 1, []), [])]
def tb_X0_reference : List (Nat × List (ev_I × List (Nat × Nat))) := [(0, b_X0_reference_0), (43, b_X0_reference_43), (46, b_X0_reference_46)]
def b_X3_referenceOf_0 : List (ev_I × List (Nat × Nat)) := [((.iload_n 2, 1, []), []), ((.ifCond .ne 12, 3, [737293]), []), ((.aload_n 0, 1, []), []), ((.getfield 41, 3, [0, 4, 13, 2]), []), ((.iload_n 1, 1, []), []), ((.iaload, 1, []), []), ((.goto 37, 3, [737327]), [])]
def b_X3_referenceOf_13 : List (ev_I × List (Nat × Nat)) := [((.iload_n 2, 1, []), []), ((.iconst 1, 1, []), []), ((.if_icmp .ne 12, 3, [737307]), []), ((.aload_n 0, 1, []), []), ((.getfield 44, 3, [0, 4, 14, 2]), []), ((.iload_n 1, 1, []), []), ((.iaload, 1, []), []), ((.goto 23, 3, [737327]), [])]
def b_X3_referenceOf_27 : List (ev_I × List (Nat × Nat)) := [((.iload_n 2, 1, []), []), ((.iconst 2, 1, []), []), ((.if_icmp .ne 12, 3, [737321]), []), ((.aload_n 0, 1, []), []), ((.getfield 47, 3, [0, 4, 15, 2]), []), ((.iload_n 1, 1, []), []), ((.iaload, 1, []), []), ((.goto 9, 3, [737327]), [])]
def b_X3_referenceOf_41 : List (ev_I × List (Nat × Nat)) := [((.aload_n 0, 1, []), []), ((.getfield 50, 3, [0, 4, 16, 2]), []), ((.iload_n 1, 1, []), []), ((.iaload, 1, []), []), ((.nop, 0, [0, 737327]), [])]
def b_X3_referenceOf_47 : List (ev_I × List (Nat × Nat)) := [((.nop, 0, [1, 0, 1, 2]), []), ((.ireturn, 1, []), [])]
def tb_X3_referenceOf : List (Nat × List (ev_I × List (Nat × Nat))) := [(0, b_X3_referenceOf_0), (13, b_X3_referenceOf_13), (27, b_X3_referenceOf_27), (41, b_X3_referenceOf_41), (47, b_X3_referenceOf_47)]
def b_X3_reference_0 : List (ev_I × List (Nat × Nat)) := [((.aload_n 0, 1, []), []), ((.iload_n 1, 1, []), []), ((.invokevirtual 174, 3, [2, 2, 136]), []), ((.ifCond .eq 34, 3, [741415]), []), ((.iload_n 2, 1, []), []), ((.iconst 0, 1, []), []), ((.iconst 2, 1, []), []), ((.invokestatic 114, 3, [49, 3]), []), ((.ifCond .eq 25, 3, [741415]), []), ((.iload_n 3, 1, []), []), ((.iconst 0, 1, []), []), ((.iconst 3, 1, []), []), ((.invokestatic 114, 3, [49, 3]), []), ((.ifCond .eq 16, 3, [741415]), []), ((.aload_n 0, 1, []), []), ((.iconst 3, 1, []), []), ((.iload_n 1, 1, []), []), ((.imul, 1, []), []), ((.iload_n 2, 1, []), []), ((.iadd, 1, []), []), ((.iload_n 3, 1, []), []), ((.invokevirtual 197, 3, [3, 2, 180]), []), ((.goto 5, 3, [741417]), [])]
def b_X3_reference_39 : List (ev_I × List (Nat × Nat)) := [((.nop, 0, [1, 0, 1, 2, 3]), []), ((.ldc 139, 2, [0, 1, 2147483648]), []), ((.nop, 0, [0, 741417]), [])]
def b_X3_reference_41 : List (ev_I × List (Nat × Nat)) := [((.nop, 0, [1, 0, 1, 2, 3]), []), ((.ireturn, 1, []), [])]
def tb_X3_reference : List (Nat × List (ev_I × List (Nat × Nat))) := [(0, b_X3_reference_0), (39, b_X3_reference_39), (41, b_X3_reference_41)]
def b_X0_referenceAt_0 : List (ev_I × List (Nat × Nat)) := [((.aload_n 0, 1, []), []), ((.getfield 34, 3, [0, 4, 3, 1]), []), ((.iload_n 1, 1, []), []), ((.iconst 3, 1, []), []), ((.idiv, 1, []), []), ((.invokevirtual 230, 3, [2, 18, 133]), []), ((.checkcast 209, 3, [1, 5]), []), ((.iload_n 1, 1, []), []), ((.iconst 3, 1, []), []), ((.irem, 1, []), []), ((.invokevirtual 233, 3, [2, 5, 134]), []), ((.areturn, 1, []), [])]
def tb_X0_referenceAt : List (Nat × List (ev_I × List (Nat × Nat))) := [(0, b_X0_referenceAt_0)]
def b_X0_isTo_0 : List (ev_I × List (Nat × Nat)) := [((.iload_n 1, 1, []), []), ((.i2l, 1, []), []), ((.lconst 0, 1, []), []), ((.iconst 3, 1, []), []), ((.aload_n 0, 1, []), []), ((.getfield 34, 3, [0, 4, 3, 1]), []), ((.invokevirtual 208, 3, [1, 18, 117]), []), ((.imul, 1, []), []), ((.iconst 1, 1, []), []), ((.isub, 1, []), []), ((.i2l, 1, []), []), ((.invokestatic 90, 3, [43, 3]), []), ((.ifCond .eq 19, 3, [749605]), []), ((.aload_n 0, 1, []), []), ((.iload_n 1, 1, []), []), ((.invokevirtual 305, 3, [2, 1, 182]), []), ((.getfield 237, 3, [1, 0, 0, 6]), []), ((.iconst (-1), 1, []), []), ((.if_icmp .eq 7, 3, [749605]), []), ((.iconst 1, 1, []), []), ((.goto 4, 3, [749606]), [])]
def b_X0_isTo_37 : List (ev_I × List (Nat × Nat)) := [((.nop, 0, [1, 0, 1]), []), ((.iconst 0, 1, []), []), ((.nop, 0, [0, 749606]), [])]
def b_X0_isTo_38 : List (ev_I × List (Nat × Nat)) := [((.nop, 0, [1, 0, 1]), []), ((.ireturn, 1, [5]), [])]
def tb_X0_isTo : List (Nat × List (ev_I × List (Nat × Nat))) := [(0, b_X0_isTo_0), (37, b_X0_isTo_37), (38, b_X0_isTo_38)]
def b_X0_isTurn_0 : List (ev_I × List (Nat × Nat)) := [((.iload_n 1, 1, []), []), ((.i2l, 1, []), []), ((.lconst 0, 1, []), []), ((.aload_n 0, 1, []), []), ((.getfield 173, 3, [0, 0, 4, 1]), []), ((.iconst 1, 1, []), []), ((.isub, 1, []), []), ((.i2l, 1, []), []), ((.invokestatic 90, 3, [43, 3]), []), ((.ireturn, 1, [5]), [])]
def tb_X0_isTurn : List (Nat × List (ev_I × List (Nat × Nat))) := [(0, b_X0_isTurn_0)]
def b_X7_lambda_new_0_0 : List (ev_I × List (Nat × Nat)) := [((.iconst 0, 1, []), []), ((.ireturn, 1, []), [])]
def tb_X7_lambda_new_0 : List (Nat × List (ev_I × List (Nat × Nat))) := [(0, b_X7_lambda_new_0_0)]
def b_X7_lambda_moves_1_0 : List (ev_I × List (Nat × Nat)) := [((.iload_n 0, 1, []), []), ((.iload_n 1, 1, []), []), ((.iload_n 3, 1, []), []), ((.imul, 1, []), []), ((.iadd, 1, []), []), ((.iload_n 2, 1, []), []), ((.iload 4, 2, []), []), ((.imul, 1, []), []), ((.iadd, 1, []), []), ((.ireturn, 1, []), [])]
def tb_X7_lambda_moves_1 : List (Nat × List (ev_I × List (Nat × Nat))) := [(0, b_X7_lambda_moves_1_0)]
def b_J8_abs_0 : List (ev_I × List (Nat × Nat)) := [((.iload_n 0, 1, []), []), ((.ifCond .ge 8, 3, [765961]), []), ((.iload_n 0, 1, []), []), ((.ineg, 1, []), []), ((.goto 4, 3, [765962]), [])]
def b_J8_abs_9 : List (ev_I × List (Nat × Nat)) := [((.iload_n 0, 1, []), []), ((.nop, 0, [0, 765962]), [])]
def b_J8_abs_10 : List (ev_I × List (Nat × Nat)) := [((.nop, 0, [1, 0]), []), ((.ireturn, 1, []), [])]
def tb_J8_abs : List (Nat × List (ev_I × List (Nat × Nat))) := [(0, b_J8_abs_0), (9, b_J8_abs_9), (10, b_J8_abs_10)]
def b_X8_init_0 : List (ev_I × List (Nat × Nat)) := [((.aload_n 0, 1, []), []), ((.invokespecial 1, 3, [0, 1]), []), ((.aload_n 0, 1, []), []), ((.iload_n 3, 1, []), []), ((.ifCond .ne 7, 3, [770061]), []), ((.iconst 0, 1, []), []), ((.goto 4, 3, [770062]), [])]
def b_X8_init_13 : List (ev_I × List (Nat × Nat)) := [((.iload_n 1, 1, []), []), ((.nop, 0, [0, 770062]), [])]
def b_X8_init_14 : List (ev_I × List (Nat × Nat)) := [((.nop, 0, [1, 1]), []), ((.putfield 7, 3, [0, 0, 0, 7]), []), ((.aload_n 0, 1, []), []), ((.iload_n 3, 1, []), []), ((.iconst 2, 1, []), []), ((.if_icmp .ge 7, 3, [770075]), []), ((.iconst 1, 1, []), []), ((.goto 4, 3, [770076]), [])]
def b_X8_init_27 : List (ev_I × List (Nat × Nat)) := [((.iload_n 2, 1, []), []), ((.nop, 0, [0, 770076]), [])]
def b_X8_init_28 : List (ev_I × List (Nat × Nat)) := [((.nop, 0, [1, 1, 2]), []), ((.putfield 13, 3, [0, 0, 1, 7]), []), ((.aload_n 0, 1, []), []), ((.iload_n 3, 1, []), []), ((.putfield 16, 3, [0, 0, 2, 7]), []), ((.return_, 1, []), [])]
def tb_X8_init : List (Nat × List (ev_I × List (Nat × Nat))) := [(0, b_X8_init_0), (13, b_X8_init_13), (14, b_X8_init_14), (27, b_X8_init_27), (28, b_X8_init_28)]
def b_X8_of_0 : List (ev_I × List (Nat × Nat)) := [((.aload_n 0, 1, []), []), ((.getfield 19, 3, [1, 4, 4, 6]), []), ((.iload_n 1, 1, []), []), ((.iconst 0, 1, []), []), ((.invokeinterface 25 3, 5, [1, 3, 0, 131, 135]), []), ((.istore_n 3, 1, []), []), ((.aload_n 0, 1, []), []), ((.getfield 19, 3, [1, 4, 4, 6]), []), ((.iload_n 1, 1, []), []), ((.iload_n 2, 1, []), []), ((.iconst 1, 1, []), []), ((.isub, 1, []), []), ((.invokeinterface 25 3, 5, [1, 3, 0, 131, 135]), []), ((.istore 4, 2, []), []), ((.new 8, 3, [7, 3]), []), ((.dup, 1, []), []), ((.iload_n 3, 1, []), []), ((.iload 4, 2, []), []), ((.invokestatic 31, 3, [79, 2]), []), ((.aload_n 0, 1, []), []), ((.getfield 36, 3, [1, 0, 3, 6]), []), ((.invokestatic 39, 3, [187, 1]), []), ((.aload_n 0, 1, []), []), ((.getfield 36, 3, [1, 0, 3, 6]), []), ((.ifCond .ne 7, 3, [774199]), []), ((.iconst 1, 1, []), []), ((.goto 4, 3, [774200]), [])]
def b_X8_of_55 : List (ev_I × List (Nat × Nat)) := [((.iload_n 2, 1, []), []), ((.nop, 0, [0, 774200]), [])]
def b_X8_of_56 : List (ev_I × List (Nat × Nat)) := [((.nop, 0, [1, 0, 1, 2, 3, 4]), []), ((.invokespecial 43, 3, [188, 4]), []), ((.areturn, 1, []), [])]
def tb_X8_of : List (Nat × List (ev_I × List (Nat × Nat))) := [(0, b_X8_of_0), (55, b_X8_of_55), (56, b_X8_of_56)]
def b_X0_sectionAt_0 : List (ev_I × List (Nat × Nat)) := [((.aload_n 0, 1, []), []), ((.iload_n 1, 1, []), []), ((.invokevirtual 305, 3, [2, 1, 182]), []), ((.iload_n 2, 1, []), []), ((.aload_n 0, 1, []), []), ((.getfield 34, 3, [0, 4, 3, 1]), []), ((.iload_n 1, 1, []), []), ((.iconst 3, 1, []), []), ((.idiv, 1, []), []), ((.invokevirtual 230, 3, [2, 18, 133]), []), ((.checkcast 209, 3, [1, 5]), []), ((.getfield 308, 3, [1, 0, 1, 5]), []), ((.invokestatic 311, 3, [189, 3]), []), ((.areturn, 1, []), [])]
def tb_X0_sectionAt : List (Nat × List (ev_I × List (Nat × Nat))) := [(0, b_X0_sectionAt_0)]
def b_X8_tells_0 : List (ev_I × List (Nat × Nat)) := [((.iload_n 1, 1, []), []), ((.lookupswitch 41 #[(0, 27), (1, 34)], 27, [782378, 782364, 782371]), [])]
def b_X8_tells_28 : List (ev_I × List (Nat × Nat)) := [((.aload_n 0, 1, []), []), ((.getfield 7, 3, [0, 0, 0, 7]), []), ((.goto 14, 3, [782382]), [])]
def b_X8_tells_35 : List (ev_I × List (Nat × Nat)) := [((.aload_n 0, 1, []), []), ((.getfield 13, 3, [0, 0, 1, 7]), []), ((.goto 7, 3, [782382]), [])]
def b_X8_tells_42 : List (ev_I × List (Nat × Nat)) := [((.aload_n 0, 1, []), []), ((.getfield 16, 3, [0, 0, 2, 7]), []), ((.nop, 0, [0, 782382]), [])]
def b_X8_tells_46 : List (ev_I × List (Nat × Nat)) := [((.nop, 0, [1, 0, 1]), []), ((.ireturn, 1, []), [])]
def tb_X8_tells : List (Nat × List (ev_I × List (Nat × Nat))) := [(0, b_X8_tells_0), (28, b_X8_tells_28), (35, b_X8_tells_35), (42, b_X8_tells_42), (46, b_X8_tells_46)]
def b_X0_section_0 : List (ev_I × List (Nat × Nat)) := [((.aload_n 0, 1, []), []), ((.iload_n 1, 1, []), []), ((.invokevirtual 317, 3, [2, 1, 183]), []), ((.ifCond .eq 36, 3, [786473]), []), ((.aload_n 0, 1, []), []), ((.iload_n 2, 1, []), []), ((.invokevirtual 320, 3, [2, 1, 184]), []), ((.ifCond .eq 28, 3, [786473]), []), ((.iload_n 3, 1, []), []), ((.i2l, 1, []), []), ((.lconst 0, 1, []), []), ((.ldc2_w 224, 3, [0, 0, 2]), []), ((.invokestatic 90, 3, [43, 3]), []), ((.ifCond .eq 16, 3, [786473]), []), ((.aload_n 0, 1, []), []), ((.iload_n 1, 1, []), []), ((.iload_n 2, 1, []), []), ((.invokevirtual 323, 3, [3, 1, 190]), []), ((.iload_n 3, 1, []), []), ((.invokevirtual 327, 3, [2, 7, 191]), []), ((.goto 6, 3, [786476]), [])]
def b_X0_section_41 : List (ev_I × List (Nat × Nat)) := [((.nop, 0, [1, 0, 1, 2, 3]), []), ((.ldc_w 304, 3, [0, 1, 2147483648]), []), ((.nop, 0, [0, 786476]), [])]
def b_X0_section_44 : List (ev_I × List (Nat × Nat)) := [((.nop, 0, [1, 0, 1, 2, 3]), []), ((.ireturn, 1, []), [])]
def tb_X0_section : List (Nat × List (ev_I × List (Nat × Nat))) := [(0, b_X0_section_0), (41, b_X0_section_41), (44, b_X0_section_44)]
def b_X3_isSection_0 : List (ev_I × List (Nat × Nat)) := [((.iload_n 1, 1, []), []), ((.iconst 0, 1, []), []), ((.iconst 3, 1, []), []), ((.aload_n 0, 1, []), []), ((.getfield 171, 3, [0, 0, 7, 2]), []), ((.imul, 1, []), []), ((.iconst 1, 1, []), []), ((.isub, 1, []), []), ((.invokestatic 114, 3, [49, 3]), []), ((.ifCond .eq 31, 3, [790572]), []), ((.iload_n 2, 1, []), []), ((.iconst 0, 1, []), []), ((.aload_n 0, 1, []), []), ((.getfield 154, 3, [0, 0, 6, 2]), []), ((.iconst 1, 1, []), []), ((.isub, 1, []), []), ((.invokestatic 114, 3, [49, 3]), []), ((.ifCond .eq 17, 3, [790572]), []), ((.aload_n 0, 1, []), []), ((.getfield 41, 3, [0, 4, 13, 2]), []), ((.iload_n 1, 1, []), []), ((.iaload, 1, []), []), ((.iconst (-1), 1, []), []), ((.if_icmp .eq 7, 3, [790572]), []), ((.iconst 1, 1, []), []), ((.goto 4, 3, [790573]), [])]
def b_X3_isSection_44 : List (ev_I × List (Nat × Nat)) := [((.nop, 0, [1, 0, 1, 2]), []), ((.iconst 0, 1, []), []), ((.nop, 0, [0, 790573]), [])]
def b_X3_isSection_45 : List (ev_I × List (Nat × Nat)) := [((.nop, 0, [1, 0, 1, 2]), []), ((.ireturn, 1, [5]), [])]
def tb_X3_isSection : List (Nat × List (ev_I × List (Nat × Nat))) := [(0, b_X3_isSection_0), (44, b_X3_isSection_44), (45, b_X3_isSection_45)]
def b_X3_placeOf_0 : List (ev_I × List (Nat × Nat)) := [((.aload_n 0, 1, []), []), ((.getfield 44, 3, [0, 4, 14, 2]), []), ((.iload_n 1, 1, []), []), ((.iaload, 1, []), []), ((.aload_n 0, 1, []), []), ((.getfield 47, 3, [0, 4, 15, 2]), []), ((.iload_n 1, 1, []), []), ((.iaload, 1, []), []), ((.iload_n 2, 1, []), []), ((.imul, 1, []), []), ((.iadd, 1, []), []), ((.aload_n 0, 1, []), []), ((.getfield 50, 3, [0, 4, 16, 2]), []), ((.iload_n 1, 1, []), []), ((.iaload, 1, []), []), ((.iload_n 3, 1, []), []), ((.imul, 1, []), []), ((.iadd, 1, []), []), ((.ireturn, 1, []), [])]
def tb_X3_placeOf : List (Nat × List (ev_I × List (Nat × Nat))) := [(0, b_X3_placeOf_0)]
def b_X3_firstOf_0 : List (ev_I × List (Nat × Nat)) := [((.aload_n 0, 1, []), []), ((.iload_n 1, 1, []), []), ((.iload_n 2, 1, []), []), ((.aload_n 0, 1, []), []), ((.getfield 29, 3, [0, 4, 9, 2]), []), ((.iload_n 1, 1, []), []), ((.iconst 3, 1, []), []), ((.idiv, 1, []), []), ((.iaload, 1, []), []), ((.iconst 1, 1, []), []), ((.isub, 1, []), []), ((.invokevirtual 200, 3, [4, 2, 194]), []), ((.istore_n 3, 1, []), []), ((.aload_n 0, 1, []), []), ((.iload_n 1, 1, []), []), ((.iload_n 2, 1, []), []), ((.iconst 0, 1, []), []), ((.invokevirtual 200, 3, [4, 2, 194]), []), ((.istore 4, 2, []), []), ((.iload 4, 2, []), []), ((.iload_n 3, 1, []), []), ((.if_icmp .ge 8, 3, [798757]), []), ((.iload 4, 2, []), []), ((.goto 4, 3, [798758]), [])]
def b_X3_firstOf_37 : List (ev_I × List (Nat × Nat)) := [((.iload_n 3, 1, []), []), ((.nop, 0, [0, 798758]), [])]
def b_X3_firstOf_38 : List (ev_I × List (Nat × Nat)) := [((.nop, 0, [1, 0, 1, 2, 3, 4]), []), ((.ireturn, 1, []), [])]
def tb_X3_firstOf : List (Nat × List (ev_I × List (Nat × Nat))) := [(0, b_X3_firstOf_0), (37, b_X3_firstOf_37), (38, b_X3_firstOf_38)]
def b_X3_manyOf_0 : List (ev_I × List (Nat × Nat)) := [((.aload_n 0, 1, []), []), ((.getfield 50, 3, [0, 4, 16, 2]), []), ((.iload_n 1, 1, []), []), ((.iaload, 1, []), []), ((.ifCond .ne 7, 3, [802829]), []), ((.iconst 1, 1, []), []), ((.goto 11, 3, [802837]), [])]
def b_X3_manyOf_13 : List (ev_I × List (Nat × Nat)) := [((.aload_n 0, 1, []), []), ((.getfield 29, 3, [0, 4, 9, 2]), []), ((.iload_n 1, 1, []), []), ((.iconst 3, 1, []), []), ((.idiv, 1, []), []), ((.iaload, 1, []), []), ((.nop, 0, [0, 802837]), [])]
def b_X3_manyOf_21 : List (ev_I × List (Nat × Nat)) := [((.nop, 0, [1, 0, 1]), []), ((.ireturn, 1, []), [])]
def tb_X3_manyOf : List (Nat × List (ev_I × List (Nat × Nat))) := [(0, b_X3_manyOf_0), (13, b_X3_manyOf_13), (21, b_X3_manyOf_21)]
def b_X3_strideOf_0 : List (ev_I × List (Nat × Nat)) := [((.aload_n 0, 1, []), []), ((.iload_n 1, 1, []), []), ((.invokevirtual 203, 3, [2, 2, 196]), []), ((.iconst 1, 1, []), []), ((.if_icmp .ne 7, 3, [806925]), []), ((.iconst 1, 1, []), []), ((.goto 28, 3, [806950]), [])]
def b_X3_strideOf_13 : List (ev_I × List (Nat × Nat)) := [((.aload_n 0, 1, []), []), ((.getfield 50, 3, [0, 4, 16, 2]), []), ((.iload_n 1, 1, []), []), ((.iaload, 1, []), []), ((.ifCond .ge 13, 3, [806944]), []), ((.aload_n 0, 1, []), []), ((.getfield 50, 3, [0, 4, 16, 2]), []), ((.iload_n 1, 1, []), []), ((.iaload, 1, []), []), ((.ineg, 1, []), []), ((.goto 9, 3, [806950]), [])]
def b_X3_strideOf_32 : List (ev_I × List (Nat × Nat)) := [((.aload_n 0, 1, []), []), ((.getfield 50, 3, [0, 4, 16, 2]), []), ((.iload_n 1, 1, []), []), ((.iaload, 1, []), []), ((.nop, 0, [0, 806950]), [])]
def b_X3_strideOf_38 : List (ev_I × List (Nat × Nat)) := [((.nop, 0, [1, 0, 1]), []), ((.ireturn, 1, []), [])]
def tb_X3_strideOf : List (Nat × List (ev_I × List (Nat × Nat))) := [(0, b_X3_strideOf_0), (13, b_X3_strideOf_13), (32, b_X3_strideOf_32), (38, b_X3_strideOf_38)]
def b_X3_sectionOf_0 : List (ev_I × List (Nat × Nat)) := [((.iload_n 3, 1, []), []), ((.ifCond .ne 12, 3, [811021]), []), ((.aload_n 0, 1, []), []), ((.iload_n 1, 1, []), []), ((.iload_n 2, 1, []), []), ((.invokevirtual 206, 3, [3, 2, 195]), []), ((.goto 21, 3, [811039]), [])]
def b_X3_sectionOf_13 : List (ev_I × List (Nat × Nat)) := [((.iload_n 3, 1, []), []), ((.iconst 1, 1, []), []), ((.if_icmp .ne 11, 3, [811034]), []), ((.aload_n 0, 1, []), []), ((.iload_n 1, 1, []), []), ((.invokevirtual 209, 3, [2, 2, 197]), []), ((.goto 8, 3, [811039]), [])]
def b_X3_sectionOf_26 : List (ev_I × List (Nat × Nat)) := [((.aload_n 0, 1, []), []), ((.iload_n 1, 1, []), []), ((.invokevirtual 203, 3, [2, 2, 196]), []), ((.nop, 0, [0, 811039]), [])]
def b_X3_sectionOf_31 : List (ev_I × List (Nat × Nat)) := [((.nop, 0, [1, 0, 1, 2, 3]), []), ((.ireturn, 1, []), [])]
def tb_X3_sectionOf : List (Nat × List (ev_I × List (Nat × Nat))) := [(0, b_X3_sectionOf_0), (13, b_X3_sectionOf_13), (26, b_X3_sectionOf_26), (31, b_X3_sectionOf_31)]
def b_X3_section_0 : List (ev_I × List (Nat × Nat)) := [((.aload_n 0, 1, []), []), ((.iload_n 1, 1, []), []), ((.iload_n 2, 1, []), []), ((.invokevirtual 212, 3, [3, 2, 193]), []), ((.ifCond .eq 22, 3, [815132]), []), ((.iload_n 3, 1, []), []), ((.iconst 0, 1, []), []), ((.iconst 2, 1, []), []), ((.invokestatic 114, 3, [49, 3]), []), ((.ifCond .eq 13, 3, [815132]), []), ((.aload_n 0, 1, []), []), ((.iload_n 1, 1, []), []), ((.iload_n 2, 1, []), []), ((.iload_n 3, 1, []), []), ((.invokevirtual 215, 3, [4, 2, 198]), []), ((.goto 5, 3, [815134]), [])]
def b_X3_section_28 : List (ev_I × List (Nat × Nat)) := [((.nop, 0, [1, 0, 1, 2, 3]), []), ((.ldc 139, 2, [0, 1, 2147483648]), []), ((.nop, 0, [0, 815134]), [])]
def b_X3_section_30 : List (ev_I × List (Nat × Nat)) := [((.nop, 0, [1, 0, 1, 2, 3]), []), ((.ireturn, 1, []), [])]
def tb_X3_section : List (Nat × List (ev_I × List (Nat × Nat))) := [(0, b_X3_section_0), (28, b_X3_section_28), (30, b_X3_section_30)]
def b_X0_divisor_0 : List (ev_I × List (Nat × Nat)) := [((.iload_n 0, 1, []), []), ((.istore_n 2, 1, []), []), ((.iload_n 1, 1, []), []), ((.istore_n 3, 1, []), []), ((.nop, 0, [0, 819204]), [])]
def b_X0_divisor_4 : List (ev_I × List (Nat × Nat)) := [((.nop, 0, [1, 0, 1, 4]), []), ((.iload_n 3, 1, []), []), ((.ifCond .eq 16, 3, [819221]), []), ((.iload_n 2, 1, []), []), ((.iload_n 3, 1, []), []), ((.irem, 1, []), []), ((.istore 4, 2, []), []), ((.iload_n 3, 1, []), []), ((.istore_n 2, 1, []), []), ((.iload 4, 2, []), []), ((.istore_n 3, 1, []), []), ((.goto (-14), 3, [819204]), [])]
def b_X0_divisor_21 : List (ev_I × List (Nat × Nat)) := [((.iload_n 2, 1, []), []), ((.ireturn, 1, []), [])]
def tb_X0_divisor : List (Nat × List (ev_I × List (Nat × Nat))) := [(0, b_X0_divisor_0), (4, b_X0_divisor_4), (21, b_X0_divisor_21)]
def b_J8_floorMod_0 : List (ev_I × List (Nat × Nat)) := [((.iload_n 0, 1, []), []), ((.iload_n 1, 1, []), []), ((.irem, 1, []), []), ((.istore_n 2, 1, []), []), ((.iload_n 0, 1, []), []), ((.iload_n 1, 1, []), []), ((.ixor, 1, []), []), ((.ifCond .ge 11, 3, [823314]), []), ((.iload_n 2, 1, []), []), ((.ifCond .eq 7, 3, [823314]), []), ((.iload_n 2, 1, []), []), ((.iload_n 1, 1, []), []), ((.iadd, 1, []), []), ((.ireturn, 1, []), [])]
def b_J8_floorMod_18 : List (ev_I × List (Nat × Nat)) := [((.nop, 0, [1, 0, 1]), []), ((.iload_n 2, 1, []), []), ((.ireturn, 1, []), [])]
def tb_J8_floorMod : List (Nat × List (ev_I × List (Nat × Nat))) := [(0, b_J8_floorMod_0), (18, b_J8_floorMod_18)]
def b_X8_last_0 : List (ev_I × List (Nat × Nat)) := [((.aload_n 0, 1, []), []), ((.getfield 7, 3, [0, 0, 0, 7]), []), ((.aload_n 0, 1, []), []), ((.getfield 16, 3, [0, 0, 2, 7]), []), ((.iconst 1, 1, []), []), ((.isub, 1, []), []), ((.aload_n 0, 1, []), []), ((.getfield 13, 3, [0, 0, 1, 7]), []), ((.imul, 1, []), []), ((.iadd, 1, []), []), ((.ireturn, 1, []), [])]
def tb_X8_last : List (Nat × List (ev_I × List (Nat × Nat))) := [(0, b_X8_last_0)]
def b_X8_meet_0 : List (ev_I × List (Nat × Nat)) := [((.aload_n 0, 1, []), []), ((.getfield 13, 3, [0, 0, 1, 7]), []), ((.aload_n 1, 1, []), []), ((.getfield 13, 3, [0, 0, 1, 7]), []), ((.invokestatic 46, 3, [200, 2]), []), ((.istore_n 2, 1, []), []), ((.aload_n 0, 1, []), []), ((.getfield 16, 3, [0, 0, 2, 7]), []), ((.ifCond .eq 24, 3, [831528]), []), ((.aload_n 1, 1, []), []), ((.getfield 16, 3, [0, 0, 2, 7]), []), ((.ifCond .eq 17, 3, [831528]), []), ((.aload_n 1, 1, []), []), ((.getfield 7, 3, [0, 0, 0, 7]), []), ((.aload_n 0, 1, []), []), ((.getfield 7, 3, [0, 0, 0, 7]), []), ((.isub, 1, []), []), ((.iload_n 2, 1, []), []), ((.irem, 1, []), []), ((.ifCond .eq 14, 3, [831539]), []), ((.nop, 0, [0, 831528]), [])]
def b_X8_meet_40 : List (ev_I × List (Nat × Nat)) := [((.nop, 0, [1, 0, 1, 2, 3, 4, 5, 6, 7, 8]), []), ((.new 8, 3, [7, 3]), []), ((.dup, 1, []), []), ((.iconst 0, 1, []), []), ((.iconst 1, 1, []), []), ((.iconst 0, 1, []), []), ((.invokespecial 43, 3, [188, 4]), []), ((.areturn, 1, []), [])]
def b_X8_meet_51 : List (ev_I × List (Nat × Nat)) := [((.aload_n 1, 1, []), []), ((.getfield 13, 3, [0, 0, 1, 7]), []), ((.iload_n 2, 1, []), []), ((.idiv, 1, []), []), ((.istore_n 3, 1, []), []), ((.iconst 0, 1, []), []), ((.istore 4, 2, []), []), ((.nop, 0, [0, 831549]), [])]
def b_X8_meet_61 : List (ev_I × List (Nat × Nat)) := [((.nop, 0, [1, 2, 5, 6, 7, 8]), []), ((.aload_n 0, 1, []), []), ((.getfield 7, 3, [0, 0, 0, 7]), []), ((.iload 4, 2, []), []), ((.aload_n 0, 1, []), []), ((.getfield 13, 3, [0, 0, 1, 7]), []), ((.imul, 1, []), []), ((.iadd, 1, []), []), ((.aload_n 1, 1, []), []), ((.getfield 7, 3, [0, 0, 0, 7]), []), ((.isub, 1, []), []), ((.aload_n 1, 1, []), []), ((.getfield 13, 3, [0, 0, 1, 7]), []), ((.invokestatic 51, 3, [201, 2]), []), ((.ifCond .eq 15, 3, [831588]), []), ((.iload 4, 2, []), []), ((.iload_n 3, 1, []), []), ((.if_icmp .ge 9, 3, [831588]), []), ((.iinc 4 1, 3, []), []), ((.goto (-36), 3, [831549]), [])]
def b_X8_meet_100 : List (ev_I × List (Nat × Nat)) := [((.nop, 0, [1, 2, 5, 6, 7, 8]), []), ((.aload_n 0, 1, []), []), ((.getfield 13, 3, [0, 0, 1, 7]), []), ((.iload_n 3, 1, []), []), ((.imul, 1, []), []), ((.istore 5, 2, []), []), ((.aload_n 0, 1, []), []), ((.getfield 7, 3, [0, 0, 0, 7]), []), ((.iload 4, 2, []), []), ((.aload_n 0, 1, []), []), ((.getfield 13, 3, [0, 0, 1, 7]), []), ((.imul, 1, []), []), ((.iadd, 1, []), []), ((.istore 6, 2, []), []), ((.aload_n 0, 1, []), []), ((.getfield 7, 3, [0, 0, 0, 7]), []), ((.aload_n 1, 1, []), []), ((.getfield 7, 3, [0, 0, 0, 7]), []), ((.invokestatic 54, 3, [94, 2]), []), ((.istore 7, 2, []), []), ((.iload 6, 2, []), []), ((.iload 7, 2, []), []), ((.if_icmp .ge 24, 3, [831651]), []), ((.iload 6, 2, []), []), ((.iload 7, 2, []), []), ((.iload 6, 2, []), []), ((.isub, 1, []), []), ((.iload 5, 2, []), []), ((.iadd, 1, []), []), ((.iconst 1, 1, []), []), ((.isub, 1, []), []), ((.iload 5, 2, []), []), ((.idiv, 1, []), []), ((.iload 5, 2, []), []), ((.imul, 1, []), []), ((.iadd, 1, []), []), ((.istore 6, 2, []), []), ((.nop, 0, [0, 831651]), [])]
def b_X8_meet_163 : List (ev_I × List (Nat × Nat)) := [((.nop, 0, [1, 2, 3, 4, 7, 8]), []), ((.aload_n 0, 1, []), []), ((.invokevirtual 57, 3, [1, 7, 202]), []), ((.aload_n 1, 1, []), []), ((.invokevirtual 57, 3, [1, 7, 202]), []), ((.invokestatic 31, 3, [79, 2]), []), ((.istore 8, 2, []), []), ((.new 8, 3, [7, 3]), []), ((.dup, 1, []), []), ((.iload 6, 2, []), []), ((.iload 5, 2, []), []), ((.iload 6, 2, []), []), ((.iload 8, 2, []), []), ((.if_icmp .le 7, 3, [831683]), []), ((.iconst 0, 1, []), []), ((.goto 13, 3, [831693]), [])]
def b_X8_meet_195 : List (ev_I × List (Nat × Nat)) := [((.iload 8, 2, []), []), ((.iload 6, 2, []), []), ((.isub, 1, []), []), ((.iload 5, 2, []), []), ((.idiv, 1, []), []), ((.iconst 1, 1, []), []), ((.iadd, 1, []), []), ((.nop, 0, [0, 831693]), [])]
def b_X8_meet_205 : List (ev_I × List (Nat × Nat)) := [((.nop, 0, [1, 0, 1, 2, 3, 4, 5, 6, 7, 8]), []), ((.invokespecial 43, 3, [188, 4]), []), ((.areturn, 1, []), [])]
def tb_X8_meet : List (Nat × List (ev_I × List (Nat × Nat))) := [(0, b_X8_meet_0), (40, b_X8_meet_40), (51, b_X8_meet_51), (61, b_X8_meet_61), (100, b_X8_meet_100), (163, b_X8_meet_163), (195, b_X8_meet_195), (205, b_X8_meet_205)]
def b_X0_meet_0 : List (ev_I × List (Nat × Nat)) := [((.aload_n 0, 1, []), []), ((.iload_n 1, 1, []), []), ((.invokevirtual 317, 3, [2, 1, 183]), []), ((.ifCond .eq 41, 3, [835630]), []), ((.aload_n 0, 1, []), []), ((.iload_n 2, 1, []), []), ((.invokevirtual 320, 3, [2, 1, 184]), []), ((.ifCond .eq 33, 3, [835630]), []), ((.aload_n 0, 1, []), []), ((.iload_n 3, 1, []), []), ((.invokevirtual 317, 3, [2, 1, 183]), []), ((.ifCond .eq 25, 3, [835630]), []), ((.aload_n 0, 1, []), []), ((.iload 4, 2, []), []), ((.invokevirtual 320, 3, [2, 1, 184]), []), ((.ifCond .eq 16, 3, [835630]), []), ((.iload 5, 2, []), []), ((.i2l, 1, []), []), ((.lconst 0, 1, []), []), ((.ldc2_w 301, 3, [0, 0, 3]), []), ((.invokestatic 90, 3, [43, 3]), []), ((.ifCond .ne 7, 3, [835634]), []), ((.nop, 0, [0, 835630]), [])]
def b_X0_meet_46 : List (ev_I × List (Nat × Nat)) := [((.nop, 0, [1, 0, 1, 2, 3, 4, 5, 6, 7]), []), ((.ldc_w 304, 3, [0, 1, 2147483648]), []), ((.ireturn, 1, []), [])]
def b_X0_meet_50 : List (ev_I × List (Nat × Nat)) := [((.aload_n 0, 1, []), []), ((.iload_n 1, 1, []), []), ((.iload_n 2, 1, []), []), ((.invokevirtual 323, 3, [3, 1, 190]), []), ((.astore 6, 2, []), []), ((.aload 6, 2, []), []), ((.aload_n 0, 1, []), []), ((.iload_n 3, 1, []), []), ((.iload 4, 2, []), []), ((.invokevirtual 323, 3, [3, 1, 190]), []), ((.invokevirtual 328, 3, [2, 7, 203]), []), ((.astore 7, 2, []), []), ((.iload 5, 2, []), []), ((.iconst 3, 1, []), []), ((.if_icmp .ne 17, 3, [835676]), []), ((.aload 6, 2, []), []), ((.getfield 332, 3, [1, 0, 2, 7]), []), ((.aload 7, 2, []), []), ((.getfield 332, 3, [1, 0, 2, 7]), []), ((.isub, 1, []), []), ((.goto 10, 3, [835683]), [])]
def b_X0_meet_92 : List (ev_I × List (Nat × Nat)) := [((.aload 7, 2, []), []), ((.iload 5, 2, []), []), ((.invokevirtual 327, 3, [2, 7, 191]), []), ((.nop, 0, [0, 835683]), [])]
def b_X0_meet_99 : List (ev_I × List (Nat × Nat)) := [((.nop, 0, [1, 0, 1, 2, 3, 4, 5, 6, 7]), []), ((.ireturn, 1, []), [])]
def tb_X0_meet : List (Nat × List (ev_I × List (Nat × Nat))) := [(0, b_X0_meet_0), (46, b_X0_meet_46), (50, b_X0_meet_50), (92, b_X0_meet_92), (99, b_X0_meet_99)]
def b_X3_hasPlace_0 : List (ev_I × List (Nat × Nat)) := [((.iconst 0, 1, []), []), ((.istore 4, 2, []), []), ((.iconst 0, 1, []), []), ((.istore 5, 2, []), []), ((.nop, 0, [0, 839686]), [])]
def b_X3_hasPlace_6 : List (ev_I × List (Nat × Nat)) := [((.iload 5, 2, []), []), ((.aload_n 0, 1, []), []), ((.getfield 29, 3, [0, 4, 9, 2]), []), ((.iload_n 1, 1, []), []), ((.iconst 3, 1, []), []), ((.idiv, 1, []), []), ((.iaload, 1, []), []), ((.if_icmp .ge 33, 3, [839729]), []), ((.iload 4, 2, []), []), ((.ifCond .ne 15, 3, [839716]), []), ((.aload_n 0, 1, []), []), ((.iload_n 1, 1, []), []), ((.iload_n 2, 1, []), []), ((.iload 5, 2, []), []), ((.invokevirtual 200, 3, [4, 2, 194]), []), ((.iload_n 3, 1, []), []), ((.if_icmp .ne 7, 3, [839720]), []), ((.nop, 0, [0, 839716]), [])]
def b_X3_hasPlace_36 : List (ev_I × List (Nat × Nat)) := [((.nop, 0, [1, 4]), []), ((.iconst 1, 1, []), []), ((.goto 4, 3, [839721]), [])]
def b_X3_hasPlace_40 : List (ev_I × List (Nat × Nat)) := [((.iconst 0, 1, []), []), ((.nop, 0, [0, 839721]), [])]
def b_X3_hasPlace_41 : List (ev_I × List (Nat × Nat)) := [((.nop, 0, [1, 4]), []), ((.istore 4, 2, []), []), ((.iinc 5 1, 3, []), []), ((.goto (-40), 3, [839686]), [])]
def b_X3_hasPlace_49 : List (ev_I × List (Nat × Nat)) := [((.iload 4, 2, []), []), ((.ireturn, 1, [5]), [])]
def tb_X3_hasPlace : List (Nat × List (ev_I × List (Nat × Nat))) := [(0, b_X3_hasPlace_0), (6, b_X3_hasPlace_6), (36, b_X3_hasPlace_36), (40, b_X3_hasPlace_40), (41, b_X3_hasPlace_41), (49, b_X3_hasPlace_49)]
def b_X3_meetOf_0 : List (ev_I × List (Nat × Nat)) := [((.iconst 0, 1, []), []), ((.istore 6, 2, []), []), ((.iconst 1, 1, []), []), ((.istore 7, 2, []), []), ((.iconst 0, 1, []), []), ((.istore 8, 2, []), []), ((.iconst 0, 1, []), []), ((.istore 9, 2, []), []), ((.nop, 0, [0, 843788]), [])]
def b_X3_meetOf_12 : List (ev_I × List (Nat × Nat)) := [((.nop, 0, [1, 10]), []), ((.iload 9, 2, []), []), ((.aload_n 0, 1, []), []), ((.iload_n 1, 1, []), []), ((.invokevirtual 203, 3, [2, 2, 196]), []), ((.if_icmp .ge 73, 3, [843868]), []), ((.aload_n 0, 1, []), []), ((.iload_n 1, 1, []), []), ((.iload_n 2, 1, []), []), ((.invokevirtual 206, 3, [3, 2, 195]), []), ((.aload_n 0, 1, []), []), ((.iload_n 1, 1, []), []), ((.invokevirtual 209, 3, [2, 2, 197]), []), ((.iload 9, 2, []), []), ((.imul, 1, []), []), ((.iadd, 1, []), []), ((.istore 10, 2, []), []), ((.aload_n 0, 1, []), []), ((.iload_n 3, 1, []), []), ((.iload 4, 2, []), []), ((.iload 10, 2, []), []), ((.invokevirtual 218, 3, [4, 2, 205]), []), ((.ifCond .eq 38, 3, [843862]), []), ((.iload 8, 2, []), []), ((.iconst 1, 1, []), []), ((.if_icmp .ne 11, 3, [843841]), []), ((.iload 10, 2, []), []), ((.iload 6, 2, []), []), ((.isub, 1, []), []), ((.goto 5, 3, [843843]), [])]
def b_X3_meetOf_65 : List (ev_I × List (Nat × Nat)) := [((.iload 7, 2, []), []), ((.nop, 0, [0, 843843]), [])]
def b_X3_meetOf_67 : List (ev_I × List (Nat × Nat)) := [((.nop, 0, [1, 7]), []), ((.istore 7, 2, []), []), ((.iload 8, 2, []), []), ((.ifCond .ne 8, 3, [843855]), []), ((.iload 10, 2, []), []), ((.goto 5, 3, [843857]), [])]
def b_X3_meetOf_79 : List (ev_I × List (Nat × Nat)) := [((.iload 6, 2, []), []), ((.nop, 0, [0, 843857]), [])]
def b_X3_meetOf_81 : List (ev_I × List (Nat × Nat)) := [((.nop, 0, [1, 6, 10]), []), ((.istore 6, 2, []), []), ((.iinc 8 1, 3, []), []), ((.nop, 0, [0, 843862]), [])]
def b_X3_meetOf_86 : List (ev_I × List (Nat × Nat)) := [((.nop, 0, [1, 10]), []), ((.iinc 9 1, 3, []), []), ((.goto (-77), 3, [843788]), [])]
def b_X3_meetOf_92 : List (ev_I × List (Nat × Nat)) := [((.iload 5, 2, []), []), ((.ifCond .ne 8, 3, [843878]), []), ((.iload 6, 2, []), []), ((.goto 33, 3, [843908]), [])]
def b_X3_meetOf_102 : List (ev_I × List (Nat × Nat)) := [((.iload 5, 2, []), []), ((.iconst 1, 1, []), []), ((.if_icmp .ne 8, 3, [843889]), []), ((.iload 7, 2, []), []), ((.goto 22, 3, [843908]), [])]
def b_X3_meetOf_113 : List (ev_I × List (Nat × Nat)) := [((.iload 5, 2, []), []), ((.iconst 2, 1, []), []), ((.if_icmp .ne 8, 3, [843900]), []), ((.iload 8, 2, []), []), ((.goto 11, 3, [843908]), [])]
def b_X3_meetOf_124 : List (ev_I × List (Nat × Nat)) := [((.aload_n 0, 1, []), []), ((.iload_n 1, 1, []), []), ((.invokevirtual 203, 3, [2, 2, 196]), []), ((.iload 8, 2, []), []), ((.isub, 1, []), []), ((.nop, 0, [0, 843908]), [])]
def b_X3_meetOf_132 : List (ev_I × List (Nat × Nat)) := [((.nop, 0, [1, 0, 1, 2, 3, 4, 5, 6, 7, 8, 9, 10]), []), ((.ireturn, 1, []), [])]
def tb_X3_meetOf : List (Nat × List (ev_I × List (Nat × Nat))) := [(0, b_X3_meetOf_0), (12, b_X3_meetOf_12), (65, b_X3_meetOf_65), (67, b_X3_meetOf_67), (79, b_X3_meetOf_79), (81, b_X3_meetOf_81), (86, b_X3_meetOf_86), (92, b_X3_meetOf_92), (102, b_X3_meetOf_102), (113, b_X3_meetOf_113), (124, b_X3_meetOf_124), (132, b_X3_meetOf_132)]
def b_X3_meet_0 : List (ev_I × List (Nat × Nat)) := [((.aload_n 0, 1, []), []), ((.iload_n 1, 1, []), []), ((.iload_n 2, 1, []), []), ((.invokevirtual 212, 3, [3, 2, 193]), []), ((.ifCond .eq 37, 3, [847915]), []), ((.aload_n 0, 1, []), []), ((.iload_n 3, 1, []), []), ((.iload 4, 2, []), []), ((.invokevirtual 212, 3, [3, 2, 193]), []), ((.ifCond .eq 27, 3, [847915]), []), ((.iload 5, 2, []), []), ((.iconst 0, 1, []), []), ((.iconst 3, 1, []), []), ((.invokestatic 114, 3, [49, 3]), []), ((.ifCond .eq 17, 3, [847915]), []), ((.aload_n 0, 1, []), []), ((.iload_n 1, 1, []), []), ((.iload_n 2, 1, []), []), ((.iload_n 3, 1, []), []), ((.iload 4, 2, []), []), ((.iload 5, 2, []), []), ((.invokevirtual 221, 3, [6, 2, 206]), []), ((.goto 5, 3, [847917]), [])]
def b_X3_meet_43 : List (ev_I × List (Nat × Nat)) := [((.nop, 0, [1, 0, 1, 2, 3, 4, 5]), []), ((.ldc 139, 2, [0, 1, 2147483648]), []), ((.nop, 0, [0, 847917]), [])]
def b_X3_meet_45 : List (ev_I × List (Nat × Nat)) := [((.nop, 0, [1, 0, 1, 2, 3, 4, 5]), []), ((.ireturn, 1, []), [])]
def tb_X3_meet : List (Nat × List (ev_I × List (Nat × Nat))) := [(0, b_X3_meet_0), (43, b_X3_meet_43), (45, b_X3_meet_45)]
def b_J34_init_0 : List (ev_I × List (Nat × Nat)) := [((.aload_n 0, 1, []), []), ((.invokespecial 87, 3, [2, 1]), []), ((.aload_n 0, 1, []), []), ((.iconst 0, 1, []), []), ((.putfield 1, 3, [0, 0, 11, 12]), []), ((.aload_n 0, 1, []), []), ((.iconst 0, 1, []), []), ((.putfield 64, 3, [0, 5, 10, 12]), []), ((.return_, 1, []), [])]
def tb_J34_init : List (Nat × List (ev_I × List (Nat × Nat))) := [(0, b_J34_init_0)]
def b_X6_looks_0 : List (ev_I × List (Nat × Nat)) := [((.iload_n 1, 1, []), []), ((.iconst 2, 1, []), []), ((.if_icmp .ne 15, 3, [856081]), []), ((.aload_n 0, 1, []), []), ((.getfield 39, 3, [0, 4, 0, 5]), []), ((.getfield 52, 3, [1, 0, 0, 3]), []), ((.bipush 9, 2, []), []), ((.if_icmp .eq 7, 3, [856085]), []), ((.nop, 0, [0, 856081]), [])]
def b_X6_looks_17 : List (ev_I × List (Nat × Nat)) := [((.nop, 0, [1, 0, 1]), []), ((.iconst 1, 1, []), []), ((.goto 4, 3, [856086]), [])]
def b_X6_looks_21 : List (ev_I × List (Nat × Nat)) := [((.iconst 0, 1, []), []), ((.nop, 0, [0, 856086]), [])]
def b_X6_looks_22 : List (ev_I × List (Nat × Nat)) := [((.nop, 0, [1, 0, 1]), []), ((.ireturn, 1, [5]), [])]
def tb_X6_looks : List (Nat × List (ev_I × List (Nat × Nat))) := [(0, b_X6_looks_0), (17, b_X6_looks_17), (21, b_X6_looks_21), (22, b_X6_looks_22)]
def b_X9_init_0 : List (ev_I × List (Nat × Nat)) := [((.aload_n 0, 1, []), []), ((.invokespecial 1, 3, [0, 1]), []), ((.aload_n 0, 1, []), []), ((.aload_n 1, 1, []), []), ((.putfield 7, 3, [0, 4, 0, 8]), []), ((.return_, 1, []), [])]
def tb_X9_init : List (Nat × List (ev_I × List (Nat × Nat))) := [(0, b_X9_init_0)]
def b_X0_kindsOf_0 : List (ev_I × List (Nat × Nat)) := [((.new 335, 3, [12, 12]), []), ((.dup, 1, []), []), ((.invokespecial 337, 3, [208, 1]), []), ((.astore_n 3, 1, []), []), ((.aload_n 0, 1, []), []), ((.getfield 34, 3, [0, 4, 3, 1]), []), ((.iload_n 1, 1, []), []), ((.invokevirtual 230, 3, [2, 18, 133]), []), ((.checkcast 209, 3, [1, 5]), []), ((.astore 4, 2, []), []), ((.iconst 0, 1, []), []), ((.istore 5, 2, []), []), ((.nop, 0, [0, 864280]), [])]
def b_X0_kindsOf_24 : List (ev_I × List (Nat × Nat)) := [((.nop, 0, [1, 6, 7, 8, 9, 10, 11]), []), ((.iload 5, 2, []), []), ((.aload_n 0, 1, []), []), ((.getfield 173, 3, [0, 0, 4, 1]), []), ((.if_icmp .ge 143, 3, [864429]), []), ((.aload 4, 2, []), []), ((.iload 5, 2, []), []), ((.invokevirtual 338, 3, [2, 5, 167]), []), ((.ifCond .ne 6, 3, [864302]), []), ((.goto 124, 3, [864423]), [])]
def b_X0_kindsOf_46 : List (ev_I × List (Nat × Nat)) := [((.getstatic 341, 3, [2, 48]), []), ((.astore 6, 2, []), []), ((.aload 6, 2, []), []), ((.arraylength, 1, []), []), ((.istore 7, 2, []), []), ((.iconst 0, 1, []), []), ((.istore 8, 2, []), []), ((.nop, 0, [0, 864315]), [])]
def b_X0_kindsOf_59 : List (ev_I × List (Nat × Nat)) := [((.nop, 0, [1, 9, 10, 11]), []), ((.iload 8, 2, []), []), ((.iload 7, 2, []), []), ((.if_icmp .ge 104, 3, [864423]), []), ((.aload 6, 2, []), []), ((.iload 8, 2, []), []), ((.iaload, 1, []), []), ((.istore 9, 2, []), []), ((.aload 4, 2, []), []), ((.iload 9, 2, []), []), ((.invokevirtual 344, 3, [2, 5, 209]), []), ((.ifCond .eq 81, 3, [864417]), []), ((.aload 4, 2, []), []), ((.iload 9, 2, []), []), ((.invokevirtual 233, 3, [2, 5, 134]), []), ((.getfield 237, 3, [1, 0, 0, 6]), []), ((.iload_n 2, 1, []), []), ((.if_icmp .eq 6, 3, [864356]), []), ((.goto 64, 3, [864417]), [])]
def b_X0_kindsOf_100 : List (ev_I × List (Nat × Nat)) := [((.aload_n 0, 1, []), []), ((.iconst 3, 1, []), []), ((.iload_n 1, 1, []), []), ((.imul, 1, []), []), ((.iload 9, 2, []), []), ((.iadd, 1, []), []), ((.iload 5, 2, []), []), ((.invokevirtual 323, 3, [3, 1, 190]), []), ((.astore 10, 2, []), []), ((.aload_n 3, 1, []), []), ((.aload 10, 2, []), []), ((.invokevirtual 347, 3, [2, 12, 115]), []), ((.checkcast 348, 3, [1, 8]), []), ((.astore 11, 2, []), []), ((.aload 11, 2, []), []), ((.ifnonnull 23, 3, [864406]), []), ((.new 348, 3, [8, 2]), []), ((.dup, 1, []), []), ((.aload 10, 2, []), []), ((.invokespecial 350, 3, [210, 2]), []), ((.astore 11, 2, []), []), ((.aload_n 3, 1, []), []), ((.aload 10, 2, []), []), ((.aload 11, 2, []), []), ((.invokevirtual 353, 3, [3, 12, 33]), []), ((.pop, 1, []), []), ((.nop, 0, [0, 864406]), [])]
def b_X0_kindsOf_150 : List (ev_I × List (Nat × Nat)) := [((.nop, 0, [1, 9, 10]), []), ((.aload 11, 2, []), []), ((.dup, 1, []), []), ((.getfield 357, 3, [1, 0, 1, 8]), []), ((.iconst 1, 1, []), []), ((.iadd, 1, []), []), ((.putfield 357, 3, [1, 0, 1, 8]), []), ((.nop, 0, [0, 864417]), [])]
def b_X0_kindsOf_161 : List (ev_I × List (Nat × Nat)) := [((.nop, 0, [1, 9, 10, 11]), []), ((.iinc 8 1, 3, []), []), ((.goto (-105), 3, [864315]), [])]
def b_X0_kindsOf_167 : List (ev_I × List (Nat × Nat)) := [((.nop, 0, [1, 6, 7, 8, 9, 10, 11]), []), ((.iinc 5 1, 3, []), []), ((.goto (-146), 3, [864280]), [])]
def b_X0_kindsOf_173 : List (ev_I × List (Nat × Nat)) := [((.aload_n 3, 1, []), []), ((.areturn, 1, []), [])]
def tb_X0_kindsOf : List (Nat × List (ev_I × List (Nat × Nat))) := [(0, b_X0_kindsOf_0), (24, b_X0_kindsOf_24), (46, b_X0_kindsOf_46), (59, b_X0_kindsOf_59), (100, b_X0_kindsOf_100), (150, b_X0_kindsOf_150), (161, b_X0_kindsOf_161), (167, b_X0_kindsOf_167), (173, b_X0_kindsOf_173)]
def b_J1_size_0 : List (ev_I × List (Nat × Nat)) := [((.aload_n 0, 1, []), []), ((.getfield 156, 3, [0, 0, 4, 11, 12]), []), ((.ireturn, 1, []), [])]
def tb_J1_size : List (Nat × List (ev_I × List (Nat × Nat))) := [(0, b_J1_size_0)]
def b_X0_kinds_0 : List (ev_I × List (Nat × Nat)) := [((.aload_n 0, 1, []), []), ((.iload_n 1, 1, []), []), ((.invokevirtual 221, 3, [2, 1, 128]), []), ((.ifCond .eq 22, 3, [872475]), []), ((.iload_n 2, 1, []), []), ((.invokestatic 106, 3, [44, 1]), []), ((.ifCond .eq 15, 3, [872475]), []), ((.aload_n 0, 1, []), []), ((.iload_n 1, 1, []), []), ((.iload_n 2, 1, []), []), ((.invokevirtual 360, 3, [3, 1, 211]), []), ((.invokevirtual 364, 3, [1, 12, 212]), []), ((.goto 5, 3, [872477]), [])]
def b_X0_kinds_27 : List (ev_I × List (Nat × Nat)) := [((.nop, 0, [1, 0, 1, 2]), []), ((.bipush (-2), 2, []), []), ((.nop, 0, [0, 872477]), [])]
def b_X0_kinds_29 : List (ev_I × List (Nat × Nat)) := [((.nop, 0, [1, 0, 1, 2]), []), ((.ireturn, 1, []), [])]
def tb_X0_kinds : List (Nat × List (ev_I × List (Nat × Nat))) := [(0, b_X0_kinds_0), (27, b_X0_kinds_27), (29, b_X0_kinds_29)]
def b_X3_isLooked_0 : List (ev_I × List (Nat × Nat)) := [((.aload_n 0, 1, []), []), ((.getfield 41, 3, [0, 4, 13, 2]), []), ((.iload_n 1, 1, []), []), ((.iaload, 1, []), []), ((.iconst (-1), 1, []), []), ((.if_icmp .eq 27, 3, [876578]), []), ((.iload_n 1, 1, []), []), ((.iconst 3, 1, []), []), ((.irem, 1, []), []), ((.iconst 2, 1, []), []), ((.if_icmp .lt 16, 3, [876574]), []), ((.aload_n 0, 1, []), []), ((.getfield 26, 3, [0, 4, 8, 2]), []), ((.iload_n 1, 1, []), []), ((.iconst 3, 1, []), []), ((.idiv, 1, []), []), ((.iaload, 1, []), []), ((.bipush 9, 2, []), []), ((.if_icmp .eq 7, 3, [876578]), []), ((.nop, 0, [0, 876574]), [])]
def b_X3_isLooked_30 : List (ev_I × List (Nat × Nat)) := [((.nop, 0, [1, 0, 1]), []), ((.iconst 1, 1, []), []), ((.goto 4, 3, [876579]), [])]
def b_X3_isLooked_34 : List (ev_I × List (Nat × Nat)) := [((.nop, 0, [1, 0, 1]), []), ((.iconst 0, 1, []), []), ((.nop, 0, [0, 876579]), [])]
def b_X3_isLooked_35 : List (ev_I × List (Nat × Nat)) := [((.nop, 0, [1, 0, 1]), []), ((.ireturn, 1, [5]), [])]
def tb_X3_isLooked : List (Nat × List (ev_I × List (Nat × Nat))) := [(0, b_X3_isLooked_0), (30, b_X3_isLooked_30), (34, b_X3_isLooked_34), (35, b_X3_isLooked_35)]
def b_X3_addsKind_0 : List (ev_I × List (Nat × Nat)) := [((.iconst (-1), 1, []), []), ((.istore_n 3, 1, []), []), ((.iconst 0, 1, []), []), ((.istore 4, 2, []), []), ((.nop, 0, [0, 880645]), [])]
def b_X3_addsKind_5 : List (ev_I × List (Nat × Nat)) := [((.nop, 0, [1, 5]), []), ((.iload 4, 2, []), []), ((.aload_n 0, 1, []), []), ((.getfield 225, 3, [0, 0, 22, 2]), []), ((.if_icmp .ge 84, 3, [880735]), []), ((.aload_n 0, 1, []), []), ((.getfield 59, 3, [0, 4, 21, 2]), []), ((.iconst 4, 1, []), []), ((.iload 4, 2, []), []), ((.imul, 1, []), []), ((.iaload, 1, []), []), ((.aload_n 0, 1, []), []), ((.iload_n 1, 1, []), []), ((.iload_n 2, 1, []), []), ((.invokevirtual 206, 3, [3, 2, 195]), []), ((.if_icmp .ne 45, 3, [880714]), []), ((.aload_n 0, 1, []), []), ((.getfield 59, 3, [0, 4, 21, 2]), []), ((.iconst 4, 1, []), []), ((.iload 4, 2, []), []), ((.imul, 1, []), []), ((.iconst 1, 1, []), []), ((.iadd, 1, []), []), ((.iaload, 1, []), []), ((.aload_n 0, 1, []), []), ((.iload_n 1, 1, []), []), ((.invokevirtual 209, 3, [2, 2, 197]), []), ((.if_icmp .ne 26, 3, [880714]), []), ((.aload_n 0, 1, []), []), ((.getfield 59, 3, [0, 4, 21, 2]), []), ((.iconst 4, 1, []), []), ((.iload 4, 2, []), []), ((.imul, 1, []), []), ((.iconst 2, 1, []), []), ((.iadd, 1, []), []), ((.iaload, 1, []), []), ((.aload_n 0, 1, []), []), ((.iload_n 1, 1, []), []), ((.invokevirtual 203, 3, [2, 2, 196]), []), ((.if_icmp .ne 7, 3, [880714]), []), ((.iconst 1, 1, []), []), ((.goto 4, 3, [880715]), [])]
def b_X3_addsKind_74 : List (ev_I × List (Nat × Nat)) := [((.nop, 0, [1, 5]), []), ((.iconst 0, 1, []), []), ((.nop, 0, [0, 880715]), [])]
def b_X3_addsKind_75 : List (ev_I × List (Nat × Nat)) := [((.nop, 0, [1, 5]), []), ((.istore 5, 2, []), []), ((.iload 5, 2, []), []), ((.ifCond .eq 8, 3, [880727]), []), ((.iload 4, 2, []), []), ((.goto 4, 3, [880728]), [])]
def b_X3_addsKind_87 : List (ev_I × List (Nat × Nat)) := [((.iload_n 3, 1, []), []), ((.nop, 0, [0, 880728]), [])]
def b_X3_addsKind_88 : List (ev_I × List (Nat × Nat)) := [((.nop, 0, [1, 3, 5]), []), ((.istore_n 3, 1, []), []), ((.iinc 4 1, 3, []), []), ((.goto (-87), 3, [880645]), [])]
def b_X3_addsKind_95 : List (ev_I × List (Nat × Nat)) := [((.iload_n 3, 1, []), []), ((.iconst (-1), 1, []), []), ((.if_icmp .ne 73, 3, [880810]), []), ((.aload_n 0, 1, []), []), ((.getfield 225, 3, [0, 0, 22, 2]), []), ((.istore_n 3, 1, []), []), ((.aload_n 0, 1, []), []), ((.getfield 59, 3, [0, 4, 21, 2]), []), ((.iconst 4, 1, []), []), ((.iload_n 3, 1, []), []), ((.imul, 1, []), []), ((.aload_n 0, 1, []), []), ((.iload_n 1, 1, []), []), ((.iload_n 2, 1, []), []), ((.invokevirtual 206, 3, [3, 2, 195]), []), ((.iastore, 1, []), []), ((.aload_n 0, 1, []), []), ((.getfield 59, 3, [0, 4, 21, 2]), []), ((.iconst 4, 1, []), []), ((.iload_n 3, 1, []), []), ((.imul, 1, []), []), ((.iconst 1, 1, []), []), ((.iadd, 1, []), []), ((.aload_n 0, 1, []), []), ((.iload_n 1, 1, []), []), ((.invokevirtual 209, 3, [2, 2, 197]), []), ((.iastore, 1, []), []), ((.aload_n 0, 1, []), []), ((.getfield 59, 3, [0, 4, 21, 2]), []), ((.iconst 4, 1, []), []), ((.iload_n 3, 1, []), []), ((.imul, 1, []), []), ((.iconst 2, 1, []), []), ((.iadd, 1, []), []), ((.aload_n 0, 1, []), []), ((.iload_n 1, 1, []), []), ((.invokevirtual 203, 3, [2, 2, 196]), []), ((.iastore, 1, []), []), ((.aload_n 0, 1, []), []), ((.getfield 59, 3, [0, 4, 21, 2]), []), ((.iconst 4, 1, []), []), ((.iload_n 3, 1, []), []), ((.imul, 1, []), []), ((.iconst 3, 1, []), []), ((.iadd, 1, []), []), ((.iconst 0, 1, []), []), ((.iastore, 1, []), []), ((.aload_n 0, 1, []), []), ((.dup, 1, []), []), ((.getfield 225, 3, [0, 0, 22, 2]), []), ((.iconst 1, 1, []), []), ((.iadd, 1, []), []), ((.putfield 225, 3, [0, 0, 22, 2]), []), ((.nop, 0, [0, 880810]), [])]
def b_X3_addsKind_170 : List (ev_I × List (Nat × Nat)) := [((.nop, 0, [1, 1, 2, 4, 5]), []), ((.aload_n 0, 1, []), []), ((.getfield 59, 3, [0, 4, 21, 2]), []), ((.iconst 4, 1, []), []), ((.iload_n 3, 1, []), []), ((.imul, 1, []), []), ((.iconst 3, 1, []), []), ((.iadd, 1, []), []), ((.dup2, 1, []), []), ((.iaload, 1, []), []), ((.iconst 1, 1, []), []), ((.iadd, 1, []), []), ((.iastore, 1, []), []), ((.return_, 1, []), [])]
def tb_X3_addsKind : List (Nat × List (ev_I × List (Nat × Nat))) := [(0, b_X3_addsKind_0), (5, b_X3_addsKind_5), (74, b_X3_addsKind_74), (75, b_X3_addsKind_75), (87, b_X3_addsKind_87), (88, b_X3_addsKind_88), (95, b_X3_addsKind_95), (170, b_X3_addsKind_170)]
def b_X3_addsIf_0 : List (ev_I × List (Nat × Nat)) := [((.aload_n 0, 1, []), []), ((.iload_n 1, 1, []), []), ((.invokevirtual 228, 3, [2, 2, 214]), []), ((.ifCond .eq 19, 3, [884760]), []), ((.aload_n 0, 1, []), []), ((.getfield 41, 3, [0, 4, 13, 2]), []), ((.iload_n 1, 1, []), []), ((.iaload, 1, []), []), ((.iload_n 3, 1, []), []), ((.if_icmp .ne 9, 3, [884760]), []), ((.aload_n 0, 1, []), []), ((.iload_n 1, 1, []), []), ((.iload_n 2, 1, []), []), ((.invokevirtual 231, 3, [3, 2, 215]), []), ((.nop, 0, [0, 884760]), [])]
def b_X3_addsIf_24 : List (ev_I × List (Nat × Nat)) := [((.nop, 0, [1, 0, 1, 2, 3]), []), ((.return_, 1, []), [])]
def tb_X3_addsIf : List (Nat × List (ev_I × List (Nat × Nat))) := [(0, b_X3_addsIf_0), (24, b_X3_addsIf_24)]
def b_X3_findsKinds_0 : List (ev_I × List (Nat × Nat)) := [((.aload_n 0, 1, []), []), ((.iconst 0, 1, []), []), ((.putfield 225, 3, [0, 0, 22, 2]), []), ((.iconst 0, 1, []), []), ((.istore_n 3, 1, []), []), ((.nop, 0, [0, 888839]), [])]
def b_X3_findsKinds_7 : List (ev_I × List (Nat × Nat)) := [((.iload_n 3, 1, []), []), ((.aload_n 0, 1, []), []), ((.getfield 154, 3, [0, 0, 6, 2]), []), ((.if_icmp .ge 49, 3, [888893]), []), ((.aload_n 0, 1, []), []), ((.iload_n 1, 1, []), []), ((.iload_n 3, 1, []), []), ((.invokevirtual 177, 3, [3, 2, 174]), []), ((.ifCond .eq 34, 3, [888887]), []), ((.aload_n 0, 1, []), []), ((.iconst 3, 1, []), []), ((.iload_n 1, 1, []), []), ((.imul, 1, []), []), ((.iconst 1, 1, []), []), ((.iadd, 1, []), []), ((.iload_n 3, 1, []), []), ((.iload_n 2, 1, []), []), ((.invokevirtual 235, 3, [4, 2, 216]), []), ((.aload_n 0, 1, []), []), ((.iconst 3, 1, []), []), ((.iload_n 1, 1, []), []), ((.imul, 1, []), []), ((.iconst 2, 1, []), []), ((.iadd, 1, []), []), ((.iload_n 3, 1, []), []), ((.iload_n 2, 1, []), []), ((.invokevirtual 235, 3, [4, 2, 216]), []), ((.aload_n 0, 1, []), []), ((.iconst 3, 1, []), []), ((.iload_n 1, 1, []), []), ((.imul, 1, []), []), ((.iload_n 3, 1, []), []), ((.iload_n 2, 1, []), []), ((.invokevirtual 235, 3, [4, 2, 216]), []), ((.nop, 0, [0, 888887]), [])]
def b_X3_findsKinds_55 : List (ev_I × List (Nat × Nat)) := [((.iinc 3 1, 3, []), []), ((.goto (-51), 3, [888839]), [])]
def b_X3_findsKinds_61 : List (ev_I × List (Nat × Nat)) := [((.aload_n 0, 1, []), []), ((.getfield 225, 3, [0, 0, 22, 2]), []), ((.ireturn, 1, []), [])]
def tb_X3_findsKinds : List (Nat × List (ev_I × List (Nat × Nat))) := [(0, b_X3_findsKinds_0), (7, b_X3_findsKinds_7), (55, b_X3_findsKinds_55), (61, b_X3_findsKinds_61)]
def b_X3_kinds_0 : List (ev_I × List (Nat × Nat)) := [((.aload_n 0, 1, []), []), ((.iload_n 1, 1, []), []), ((.invokevirtual 174, 3, [2, 2, 136]), []), ((.ifCond .eq 19, 3, [892952]), []), ((.iload_n 2, 1, []), []), ((.invokestatic 122, 3, [50, 1]), []), ((.ifCond .eq 12, 3, [892952]), []), ((.aload_n 0, 1, []), []), ((.iload_n 1, 1, []), []), ((.iload_n 2, 1, []), []), ((.invokevirtual 239, 3, [3, 2, 217]), []), ((.goto 5, 3, [892954]), [])]
def b_X3_kinds_24 : List (ev_I × List (Nat × Nat)) := [((.nop, 0, [1, 0, 1, 2]), []), ((.bipush (-2), 2, []), []), ((.nop, 0, [0, 892954]), [])]
def b_X3_kinds_26 : List (ev_I × List (Nat × Nat)) := [((.nop, 0, [1, 0, 1, 2]), []), ((.ireturn, 1, []), [])]
def tb_X3_kinds : List (Nat × List (ev_I × List (Nat × Nat))) := [(0, b_X3_kinds_0), (24, b_X3_kinds_24), (26, b_X3_kinds_26)]
def b_J35_init_0 : List (ev_I × List (Nat × Nat)) := [((.aload_n 0, 1, []), []), ((.aload_n 1, 1, []), []), ((.putfield 1, 3, [0, 4, 1, 20]), []), ((.aload_n 0, 1, []), []), ((.invokespecial 7, 3, [36, 1]), []), ((.aload_n 0, 1, []), []), ((.iload_n 2, 1, []), []), ((.putfield 13, 3, [0, 5, 0, 20]), []), ((.return_, 1, []), [])]
def tb_J35_init : List (Nat × List (ev_I × List (Nat × Nat))) := [(0, b_J35_init_0)]
def b_J34_sequencedValues_0 : List (ev_I × List (Nat × Nat)) := [((.aload_n 0, 1, []), []), ((.getfield 139, 3, [0, 4, 1, 12]), []), ((.astore_n 1, 1, []), []), ((.aload_n 1, 1, []), []), ((.ifnonnull 20, 3, [901146]), []), ((.new 143, 3, [20, 2]), []), ((.dup, 1, []), []), ((.aload_n 0, 1, []), []), ((.iconst 0, 1, []), []), ((.invokespecial 145, 3, [219, 3]), []), ((.astore_n 2, 1, []), []), ((.aload_n 0, 1, []), []), ((.aload_n 2, 1, []), []), ((.putfield 139, 3, [0, 4, 1, 12]), []), ((.aload_n 2, 1, []), []), ((.areturn, 1, []), [])]
def b_J34_sequencedValues_26 : List (ev_I × List (Nat × Nat)) := [((.aload_n 1, 1, []), []), ((.checkcast 146, 3, [0]), []), ((.areturn, 1, []), [])]
def tb_J34_sequencedValues : List (Nat × List (ev_I × List (Nat × Nat))) := [(0, b_J34_sequencedValues_0), (26, b_J34_sequencedValues_26)]
def b_J34_values_0 : List (ev_I × List (Nat × Nat)) := [((.aload_n 0, 1, []), []), ((.invokevirtual 135, 3, [1, 12, 220]), []), ((.areturn, 1, []), [])]
def tb_J34_values : List (Nat × List (ev_I × List (Nat × Nat))) := [(0, b_J34_values_0)]
def b_J38_init_0 : List (ev_I × List (Nat × Nat)) := [((.aload_n 0, 1, []), []), ((.aload_n 1, 1, []), []), ((.putfield 1, 3, [0, 4, 4, 21]), []), ((.aload_n 0, 1, []), []), ((.invokespecial 7, 3, [0, 1]), []), ((.aload_n 0, 1, []), []), ((.iload_n 2, 1, []), []), ((.putfield 13, 3, [0, 5, 3, 21]), []), ((.aload_n 0, 1, []), []), ((.iload_n 2, 1, []), []), ((.ifCond .eq 10, 3, [909338]), []), ((.aload_n 1, 1, []), []), ((.getfield 17, 3, [0, 4, 9, 12]), []), ((.goto 7, 3, [909342]), [])]
def b_J38_init_26 : List (ev_I × List (Nat × Nat)) := [((.aload_n 1, 1, []), []), ((.getfield 23, 3, [0, 4, 8, 12]), []), ((.nop, 0, [0, 909342]), [])]
def b_J38_init_30 : List (ev_I × List (Nat × Nat)) := [((.nop, 0, [1, 2]), []), ((.putfield 26, 3, [0, 4, 0, 21]), []), ((.aload_n 0, 1, []), []), ((.aload_n 1, 1, []), []), ((.getfield 29, 3, [0, 0, 5, 12]), []), ((.putfield 33, 3, [0, 0, 2, 21]), []), ((.aload_n 0, 1, []), []), ((.aconst_null, 1, []), []), ((.putfield 36, 3, [0, 4, 1, 21]), []), ((.return_, 1, []), [])]
def tb_J38_init : List (Nat × List (ev_I × List (Nat × Nat))) := [(0, b_J38_init_0), (26, b_J38_init_26), (30, b_J38_init_30)]
def b_J39_init_0 : List (ev_I × List (Nat × Nat)) := [((.aload_n 0, 1, []), []), ((.aload_n 1, 1, []), []), ((.iload_n 2, 1, []), []), ((.invokespecial 1, 3, [222, 3]), []), ((.return_, 1, []), [])]
def tb_J39_init : List (Nat × List (ev_I × List (Nat × Nat))) := [(0, b_J39_init_0)]
def b_J35_iterator_0 : List (ev_I × List (Nat × Nat)) := [((.new 26, 3, [21, 5]), []), ((.dup, 1, []), []), ((.aload_n 0, 1, []), []), ((.getfield 1, 3, [0, 4, 1, 20]), []), ((.aload_n 0, 1, []), []), ((.getfield 13, 3, [0, 5, 0, 20]), []), ((.invokespecial 28, 3, [223, 3]), []), ((.areturn, 1, []), [])]
def tb_J35_iterator : List (Nat × List (ev_I × List (Nat × Nat))) := [(0, b_J35_iterator_0)]
def b_J38_hasNext_0 : List (ev_I × List (Nat × Nat)) := [((.aload_n 0, 1, []), []), ((.getfield 26, 3, [0, 4, 0, 21]), []), ((.ifnull 7, 3, [921611]), []), ((.iconst 1, 1, []), []), ((.goto 4, 3, [921612]), [])]
def b_J38_hasNext_11 : List (ev_I × List (Nat × Nat)) := [((.iconst 0, 1, []), []), ((.nop, 0, [0, 921612]), [])]
def b_J38_hasNext_12 : List (ev_I × List (Nat × Nat)) := [((.nop, 0, [1, 0]), []), ((.ireturn, 1, [5]), [])]
def tb_J38_hasNext : List (Nat × List (ev_I × List (Nat × Nat))) := [(0, b_J38_hasNext_0), (11, b_J38_hasNext_11), (12, b_J38_hasNext_12)]
def b_J38_nextNode_0 : List (ev_I × List (Nat × Nat)) := [((.aload_n 0, 1, []), []), ((.getfield 26, 3, [0, 4, 0, 21]), []), ((.astore_n 1, 1, []), []), ((.aload_n 0, 1, []), []), ((.getfield 1, 3, [0, 4, 4, 21]), []), ((.getfield 29, 3, [0, 0, 5, 12]), []), ((.aload_n 0, 1, []), []), ((.getfield 33, 3, [0, 0, 2, 21]), []), ((.if_icmp .eq 11, 3, [925723]), []), ((.new 39, 3, []), []), ((.dup, 1, []), []), ((.invokespecial 41, 3, []), []), ((.athrow, 1, []), [])]
def b_J38_nextNode_27 : List (ev_I × List (Nat × Nat)) := [((.aload_n 1, 1, []), []), ((.ifnonnull 11, 3, [925735]), []), ((.new 42, 3, []), []), ((.dup, 1, []), []), ((.invokespecial 44, 3, []), []), ((.athrow, 1, []), [])]
def b_J38_nextNode_39 : List (ev_I × List (Nat × Nat)) := [((.aload_n 0, 1, []), []), ((.aload_n 1, 1, []), []), ((.putfield 36, 3, [0, 4, 1, 21]), []), ((.aload_n 0, 1, []), []), ((.aload_n 0, 1, []), []), ((.getfield 13, 3, [0, 5, 3, 21]), []), ((.ifCond .eq 10, 3, [925755]), []), ((.aload_n 1, 1, []), []), ((.getfield 45, 3, [0, 4, 4, 14]), []), ((.goto 7, 3, [925759]), [])]
def b_J38_nextNode_59 : List (ev_I × List (Nat × Nat)) := [((.aload_n 1, 1, []), []), ((.getfield 50, 3, [0, 4, 5, 14]), []), ((.nop, 0, [0, 925759]), [])]
def b_J38_nextNode_63 : List (ev_I × List (Nat × Nat)) := [((.nop, 0, [1, 0]), []), ((.putfield 26, 3, [0, 4, 0, 21]), []), ((.aload_n 1, 1, []), []), ((.areturn, 1, []), [])]
def tb_J38_nextNode : List (Nat × List (ev_I × List (Nat × Nat))) := [(0, b_J38_nextNode_0), (27, b_J38_nextNode_27), (39, b_J38_nextNode_39), (59, b_J38_nextNode_59), (63, b_J38_nextNode_63)]
def b_J39_next_0 : List (ev_I × List (Nat × Nat)) := [((.aload_n 0, 1, []), []), ((.invokevirtual 7, 3, [1, 21, 226]), []), ((.getfield 13, 3, [0, 4, 2, 14]), []), ((.areturn, 1, []), [])]
def tb_J39_next : List (Nat × List (ev_I × List (Nat × Nat))) := [(0, b_J39_next_0)]
def b_X0_nth_0 : List (ev_I × List (Nat × Nat)) := [((.iconst 0, 1, []), []), ((.istore_n 2, 1, []), []), ((.aload_n 0, 1, []), []), ((.invokevirtual 365, 3, [1, 12, 221]), []), ((.invokeinterface 369 1, 5, [0, 1, 20, 224]), []), ((.astore_n 3, 1, []), []), ((.nop, 0, [0, 933900]), [])]
def b_X0_nth_12 : List (ev_I × List (Nat × Nat)) := [((.nop, 0, [1, 0, 4]), []), ((.aload_n 3, 1, []), []), ((.invokeinterface 375 1, 5, [0, 1, 21, 225]), []), ((.ifCond .eq 28, 3, [933934]), []), ((.aload_n 3, 1, []), []), ((.invokeinterface 380 1, 5, [0, 1, 21, 227]), []), ((.checkcast 348, 3, [1, 8]), []), ((.astore 4, 2, []), []), ((.iload_n 2, 1, []), []), ((.iload_n 1, 1, []), []), ((.if_icmp .ne 6, 3, [933928]), []), ((.aload 4, 2, []), []), ((.areturn, 1, []), [])]
def b_X0_nth_40 : List (ev_I × List (Nat × Nat)) := [((.iinc 2 1, 3, []), []), ((.goto (-31), 3, [933900]), [])]
def b_X0_nth_46 : List (ev_I × List (Nat × Nat)) := [((.aconst_null, 1, []), []), ((.areturn, 1, []), [])]
def tb_X0_nth : List (Nat × List (ev_I × List (Nat × Nat))) := [(0, b_X0_nth_0), (12, b_X0_nth_12), (40, b_X0_nth_40), (46, b_X0_nth_46)]
def b_X0_kind_0 : List (ev_I × List (Nat × Nat)) := [((.aload_n 0, 1, []), []), ((.iload_n 1, 1, []), []), ((.invokevirtual 221, 3, [2, 1, 128]), []), ((.ifCond .eq 27, 3, [938016]), []), ((.iload_n 2, 1, []), []), ((.invokestatic 106, 3, [44, 1]), []), ((.ifCond .eq 20, 3, [938016]), []), ((.iload_n 3, 1, []), []), ((.ifCond .lt 16, 3, [938016]), []), ((.iload 4, 2, []), []), ((.i2l, 1, []), []), ((.lconst 0, 1, []), []), ((.ldc2_w 301, 3, [0, 0, 3]), []), ((.invokestatic 90, 3, [43, 3]), []), ((.ifCond .ne 7, 3, [938020]), []), ((.nop, 0, [0, 938016]), [])]
def b_X0_kind_32 : List (ev_I × List (Nat × Nat)) := [((.nop, 0, [1, 0, 1, 2, 3, 4, 5]), []), ((.ldc_w 304, 3, [0, 1, 2147483648]), []), ((.ireturn, 1, []), [])]
def b_X0_kind_36 : List (ev_I × List (Nat × Nat)) := [((.aload_n 0, 1, []), []), ((.iload_n 1, 1, []), []), ((.iload_n 2, 1, []), []), ((.invokevirtual 360, 3, [3, 1, 211]), []), ((.iload_n 3, 1, []), []), ((.invokestatic 383, 3, [228, 2]), []), ((.astore 5, 2, []), []), ((.aload 5, 2, []), []), ((.ifnonnull 7, 3, [938041]), []), ((.ldc_w 304, 3, [0, 1, 2147483648]), []), ((.ireturn, 1, []), [])]
def b_X0_kind_57 : List (ev_I × List (Nat × Nat)) := [((.iload 4, 2, []), []), ((.iconst 3, 1, []), []), ((.if_icmp .ne 11, 3, [938055]), []), ((.aload 5, 2, []), []), ((.getfield 357, 3, [1, 0, 1, 8]), []), ((.goto 13, 3, [938065]), [])]
def b_X0_kind_71 : List (ev_I × List (Nat × Nat)) := [((.aload 5, 2, []), []), ((.getfield 387, 3, [1, 4, 0, 8]), []), ((.iload 4, 2, []), []), ((.invokevirtual 327, 3, [2, 7, 191]), []), ((.nop, 0, [0, 938065]), [])]
def b_X0_kind_81 : List (ev_I × List (Nat × Nat)) := [((.nop, 0, [1, 0, 1, 2, 3, 4, 5]), []), ((.ireturn, 1, []), [])]
def tb_X0_kind : List (Nat × List (ev_I × List (Nat × Nat))) := [(0, b_X0_kind_0), (32, b_X0_kind_32), (36, b_X0_kind_36), (57, b_X0_kind_57), (71, b_X0_kind_71), (81, b_X0_kind_81)]
def b_X3_kind_0 : List (ev_I × List (Nat × Nat)) := [((.aload_n 0, 1, []), []), ((.iload_n 1, 1, []), []), ((.invokevirtual 174, 3, [2, 2, 136]), []), ((.ifCond .eq 20, 3, [942105]), []), ((.iload_n 2, 1, []), []), ((.invokestatic 122, 3, [50, 1]), []), ((.ifCond .eq 13, 3, [942105]), []), ((.iload 4, 2, []), []), ((.iconst 0, 1, []), []), ((.iconst 3, 1, []), []), ((.invokestatic 114, 3, [49, 3]), []), ((.ifCond .ne 6, 3, [942108]), []), ((.nop, 0, [0, 942105]), [])]
def b_X3_kind_25 : List (ev_I × List (Nat × Nat)) := [((.nop, 0, [1, 0, 1, 2, 3, 4]), []), ((.ldc 139, 2, [0, 1, 2147483648]), []), ((.ireturn, 1, []), [])]
def b_X3_kind_28 : List (ev_I × List (Nat × Nat)) := [((.iload_n 3, 1, []), []), ((.iconst 0, 1, []), []), ((.aload_n 0, 1, []), []), ((.iload_n 1, 1, []), []), ((.iload_n 2, 1, []), []), ((.invokevirtual 239, 3, [3, 2, 217]), []), ((.iconst 1, 1, []), []), ((.isub, 1, []), []), ((.invokestatic 114, 3, [49, 3]), []), ((.ifCond .eq 17, 3, [942138]), []), ((.aload_n 0, 1, []), []), ((.getfield 59, 3, [0, 4, 21, 2]), []), ((.iconst 4, 1, []), []), ((.iload_n 3, 1, []), []), ((.imul, 1, []), []), ((.iload 4, 2, []), []), ((.iadd, 1, []), []), ((.iaload, 1, []), []), ((.goto 5, 3, [942140]), [])]
def b_X3_kind_58 : List (ev_I × List (Nat × Nat)) := [((.ldc 139, 2, [0, 1, 2147483648]), []), ((.nop, 0, [0, 942140]), [])]
def b_X3_kind_60 : List (ev_I × List (Nat × Nat)) := [((.nop, 0, [1, 0, 1, 2, 3, 4]), []), ((.ireturn, 1, []), [])]
def tb_X3_kind : List (Nat × List (ev_I × List (Nat × Nat))) := [(0, b_X3_kind_0), (25, b_X3_kind_25), (28, b_X3_kind_28), (58, b_X3_kind_58), (60, b_X3_kind_60)]
def b_X0_isSet_0 : List (ev_I × List (Nat × Nat)) := [((.iload_n 1, 1, []), []), ((.i2l, 1, []), []), ((.lconst 0, 1, []), []), ((.ldc2_w 301, 3, [0, 0, 3]), []), ((.invokestatic 90, 3, [43, 3]), []), ((.ifCond .eq 27, 3, [946212]), []), ((.iload_n 2, 1, []), []), ((.invokestatic 106, 3, [44, 1]), []), ((.ifCond .eq 20, 3, [946212]), []), ((.iload_n 3, 1, []), []), ((.iconst (-1), 1, []), []), ((.if_icmp .eq 11, 3, [946208]), []), ((.aload_n 0, 1, []), []), ((.iload_n 3, 1, []), []), ((.invokevirtual 320, 3, [2, 1, 184]), []), ((.ifCond .eq 7, 3, [946212]), []), ((.nop, 0, [0, 946208]), [])]
def b_X0_isSet_32 : List (ev_I × List (Nat × Nat)) := [((.nop, 0, [1, 0, 1, 2, 3]), []), ((.iconst 1, 1, []), []), ((.goto 4, 3, [946213]), [])]
def b_X0_isSet_36 : List (ev_I × List (Nat × Nat)) := [((.nop, 0, [1, 0, 1, 2, 3]), []), ((.iconst 0, 1, []), []), ((.nop, 0, [0, 946213]), [])]
def b_X0_isSet_37 : List (ev_I × List (Nat × Nat)) := [((.nop, 0, [1, 0, 1, 2, 3]), []), ((.ireturn, 1, [5]), [])]
def tb_X0_isSet : List (Nat × List (ev_I × List (Nat × Nat))) := [(0, b_X0_isSet_0), (32, b_X0_isSet_32), (36, b_X0_isSet_36), (37, b_X0_isSet_37)]
def b_X0_fits_0 : List (ev_I × List (Nat × Nat)) := [((.aload_n 1, 1, []), []), ((.getfield 237, 3, [1, 0, 0, 6]), []), ((.iconst (-1), 1, []), []), ((.if_icmp .ne 5, 3, [950282]), []), ((.iload_n 3, 1, []), []), ((.ireturn, 1, []), [])]
def b_X0_fits_10 : List (ev_I × List (Nat × Nat)) := [((.aload_n 0, 1, []), []), ((.aload_n 1, 1, []), []), ((.getfield 237, 3, [1, 0, 0, 6]), []), ((.invokevirtual 391, 3, [2, 1, 159]), []), ((.astore 4, 2, []), []), ((.aload_n 1, 1, []), []), ((.getfield 395, 3, [1, 4, 4, 6]), []), ((.iload_n 2, 1, []), []), ((.iconst 0, 1, []), []), ((.invokeinterface 399 3, 5, [1, 3, 0, 131, 135]), []), ((.istore 5, 2, []), []), ((.aload 4, 2, []), []), ((.ifnull 13, 3, [950320]), []), ((.aload 4, 2, []), []), ((.iload 5, 2, []), []), ((.invokevirtual 404, 3, [2, 4, 165]), []), ((.ifCond .ne 5, 3, [950322]), []), ((.nop, 0, [0, 950320]), [])]
def b_X0_fits_48 : List (ev_I × List (Nat × Nat)) := [((.nop, 0, [1, 0, 1, 2, 3, 4, 5, 6]), []), ((.iconst 0, 1, []), []), ((.ireturn, 1, []), [])]
def b_X0_fits_50 : List (ev_I × List (Nat × Nat)) := [((.aload_n 1, 1, []), []), ((.getfield 259, 3, [1, 0, 3, 6]), []), ((.ifCond .ne 7, 3, [950333]), []), ((.iload_n 3, 1, []), []), ((.goto 40, 3, [950370]), [])]
def b_X0_fits_61 : List (ev_I × List (Nat × Nat)) := [((.aload_n 1, 1, []), []), ((.getfield 259, 3, [1, 0, 3, 6]), []), ((.ifCond .le 23, 3, [950360]), []), ((.aload 4, 2, []), []), ((.getfield 121, 3, [1, 0, 2, 4]), []), ((.iconst 1, 1, []), []), ((.isub, 1, []), []), ((.iload 5, 2, []), []), ((.isub, 1, []), []), ((.aload_n 1, 1, []), []), ((.getfield 259, 3, [1, 0, 3, 6]), []), ((.idiv, 1, []), []), ((.iconst 1, 1, []), []), ((.iadd, 1, []), []), ((.goto 13, 3, [950370]), [])]
def b_X0_fits_88 : List (ev_I × List (Nat × Nat)) := [((.iload 5, 2, []), []), ((.aload_n 1, 1, []), []), ((.getfield 259, 3, [1, 0, 3, 6]), []), ((.ineg, 1, []), []), ((.idiv, 1, []), []), ((.iconst 1, 1, []), []), ((.iadd, 1, []), []), ((.nop, 0, [0, 950370]), [])]
def b_X0_fits_98 : List (ev_I × List (Nat × Nat)) := [((.nop, 0, [1, 0, 1, 2, 4, 5, 6]), []), ((.istore 6, 2, []), []), ((.iload 6, 2, []), []), ((.iload_n 3, 1, []), []), ((.invokestatic 407, 3, [79, 2]), []), ((.ireturn, 1, []), [])]
def tb_X0_fits : List (Nat × List (ev_I × List (Nat × Nat))) := [(0, b_X0_fits_0), (10, b_X0_fits_10), (48, b_X0_fits_48), (50, b_X0_fits_50), (61, b_X0_fits_61), (88, b_X0_fits_88), (98, b_X0_fits_98)]
def b_X0_setAt_0 : List (ev_I × List (Nat × Nat)) := [((.iload_n 0, 1, []), []), ((.bipush 6, 2, []), []), ((.imul, 1, []), []), ((.iload_n 1, 1, []), []), ((.iadd, 1, []), []), ((.bipush 10, 2, []), []), ((.imul, 1, []), []), ((.iload_n 2, 1, []), []), ((.iadd, 1, []), []), ((.ireturn, 1, []), [])]
def tb_X0_setAt : List (Nat × List (ev_I × List (Nat × Nat))) := [(0, b_X0_setAt_0)]
def b_X0_cellsOf_0 : List (ev_I × List (Nat × Nat)) := [((.lconst 0, 1, []), []), ((.lstore 4, 2, []), []), ((.iconst 0, 1, []), []), ((.istore 6, 2, []), []), ((.nop, 0, [0, 958470]), [])]
def b_X0_cellsOf_6 : List (ev_I × List (Nat × Nat)) := [((.nop, 0, [1, 0]), []), ((.iload 6, 2, []), []), ((.iload_n 3, 1, []), []), ((.if_icmp .ge 28, 3, [958501]), []), ((.lload 4, 2, []), []), ((.lconst 1, 1, []), []), ((.aload_n 1, 1, []), []), ((.getfield 395, 3, [1, 4, 4, 6]), []), ((.iload_n 2, 1, []), []), ((.iload 6, 2, []), []), ((.invokeinterface 399 3, 5, [1, 3, 0, 131, 135]), []), ((.lshl, 1, []), []), ((.lor, 1, []), []), ((.lstore 4, 2, []), []), ((.iinc 6 1, 3, []), []), ((.goto (-28), 3, [958470]), [])]
def b_X0_cellsOf_37 : List (ev_I × List (Nat × Nat)) := [((.lload 4, 2, []), []), ((.lreturn, 1, []), [])]
def tb_X0_cellsOf : List (Nat × List (ev_I × List (Nat × Nat))) := [(0, b_X0_cellsOf_0), (6, b_X0_cellsOf_6), (37, b_X0_cellsOf_37)]
def b_X1_isFirm_0 : List (ev_I × List (Nat × Nat)) := [((.aload_n 0, 1, []), []), ((.getfield 9, 3, [0, 0, 0, 3]), []), ((.bipush 10, 2, []), []), ((.if_icmp .eq 7, 3, [962573]), []), ((.iconst 1, 1, []), []), ((.goto 4, 3, [962574]), [])]
def b_X1_isFirm_13 : List (ev_I × List (Nat × Nat)) := [((.iconst 0, 1, []), []), ((.nop, 0, [0, 962574]), [])]
def b_X1_isFirm_14 : List (ev_I × List (Nat × Nat)) := [((.nop, 0, [1, 0]), []), ((.ireturn, 1, [5]), [])]
def tb_X1_isFirm : List (Nat × List (ev_I × List (Nat × Nat))) := [(0, b_X1_isFirm_0), (13, b_X1_isFirm_13), (14, b_X1_isFirm_14)]
def b_X0_isOwn_0 : List (ev_I × List (Nat × Nat)) := [((.aload_n 0, 1, []), []), ((.iconst 0, 1, []), []), ((.invokevirtual 233, 3, [2, 5, 134]), []), ((.astore 4, 2, []), []), ((.iload_n 2, 1, []), []), ((.aload 4, 2, []), []), ((.getfield 395, 3, [1, 4, 4, 6]), []), ((.iload_n 1, 1, []), []), ((.iconst 0, 1, []), []), ((.invokeinterface 399 3, 5, [1, 3, 0, 131, 135]), []), ((.isub, 1, []), []), ((.istore 5, 2, []), []), ((.aload 4, 2, []), []), ((.getfield 259, 3, [1, 0, 3, 6]), []), ((.ifCond .ne 18, 3, [966702]), []), ((.iload 5, 2, []), []), ((.ifCond .ne 11, 3, [966700]), []), ((.iload_n 3, 1, []), []), ((.ifCond .le 7, 3, [966700]), []), ((.iconst 1, 1, []), []), ((.goto 4, 3, [966701]), [])]
def b_X0_isOwn_44 : List (ev_I × List (Nat × Nat)) := [((.nop, 0, [1, 0, 1, 2, 3, 4, 5]), []), ((.iconst 0, 1, []), []), ((.nop, 0, [0, 966701]), [])]
def b_X0_isOwn_45 : List (ev_I × List (Nat × Nat)) := [((.nop, 0, [1, 0, 1, 2, 3, 4, 5]), []), ((.ireturn, 1, [5]), [])]
def b_X0_isOwn_46 : List (ev_I × List (Nat × Nat)) := [((.iload 5, 2, []), []), ((.aload 4, 2, []), []), ((.getfield 259, 3, [1, 0, 3, 6]), []), ((.irem, 1, []), []), ((.ifCond .ne 27, 3, [966737]), []), ((.iload 5, 2, []), []), ((.aload 4, 2, []), []), ((.getfield 259, 3, [1, 0, 3, 6]), []), ((.idiv, 1, []), []), ((.i2l, 1, []), []), ((.lconst 0, 1, []), []), ((.iload_n 3, 1, []), []), ((.iconst 1, 1, []), []), ((.isub, 1, []), []), ((.i2l, 1, []), []), ((.invokestatic 90, 3, [43, 3]), []), ((.ifCond .eq 7, 3, [966737]), []), ((.iconst 1, 1, []), []), ((.goto 4, 3, [966738]), [])]
def b_X0_isOwn_81 : List (ev_I × List (Nat × Nat)) := [((.nop, 0, [1, 0, 1, 2, 3, 4, 5]), []), ((.iconst 0, 1, []), []), ((.nop, 0, [0, 966738]), [])]
def b_X0_isOwn_82 : List (ev_I × List (Nat × Nat)) := [((.nop, 0, [1, 0, 1, 2, 3, 4, 5]), []), ((.ireturn, 1, [5]), [])]
def tb_X0_isOwn : List (Nat × List (ev_I × List (Nat × Nat))) := [(0, b_X0_isOwn_0), (44, b_X0_isOwn_44), (45, b_X0_isOwn_45), (46, b_X0_isOwn_46), (81, b_X0_isOwn_81), (82, b_X0_isOwn_82)]
def b_X0_reads_0 : List (ev_I × List (Nat × Nat)) := [((.aload_n 1, 1, []), []), ((.iload_n 2, 1, []), []), ((.invokevirtual 233, 3, [2, 5, 134]), []), ((.astore 5, 2, []), []), ((.aload 5, 2, []), []), ((.getfield 237, 3, [1, 0, 0, 6]), []), ((.iconst (-1), 1, []), []), ((.if_icmp .eq 8, 3, [970773]), []), ((.iload 4, 2, []), []), ((.ifCond .ne 4, 3, [970774]), []), ((.nop, 0, [0, 970773]), [])]
def b_X0_reads_21 : List (ev_I × List (Nat × Nat)) := [((.nop, 0, [1, 0, 1, 2, 3, 4, 5, 6, 7, 8, 9]), []), ((.return_, 1, []), [])]
def b_X0_reads_22 : List (ev_I × List (Nat × Nat)) := [((.aload_n 0, 1, []), []), ((.getfield 49, 3, [0, 4, 8, 1]), []), ((.iconst 0, 1, []), []), ((.aload 5, 2, []), []), ((.getfield 237, 3, [1, 0, 0, 6]), []), ((.iload_n 3, 1, []), []), ((.invokestatic 412, 3, [233, 3]), []), ((.dup2, 1, []), []), ((.laload, 1, []), []), ((.aload_n 0, 1, []), []), ((.aload 5, 2, []), []), ((.iload_n 3, 1, []), []), ((.iload 4, 2, []), []), ((.invokevirtual 416, 3, [4, 1, 234]), []), ((.lor, 1, []), []), ((.lastore, 1, []), []), ((.aload_n 1, 1, []), []), ((.getfield 420, 3, [1, 4, 0, 5]), []), ((.invokevirtual 424, 3, [1, 3, 235]), []), ((.ifCond .eq 23, 3, [970831]), []), ((.aload_n 1, 1, []), []), ((.iconst 0, 1, []), []), ((.invokevirtual 233, 3, [2, 5, 134]), []), ((.getfield 237, 3, [1, 0, 0, 6]), []), ((.aload 5, 2, []), []), ((.getfield 237, 3, [1, 0, 0, 6]), []), ((.if_icmp .ne 7, 3, [970831]), []), ((.iconst 1, 1, []), []), ((.goto 4, 3, [970832]), [])]
def b_X0_reads_79 : List (ev_I × List (Nat × Nat)) := [((.nop, 0, [1, 2, 6, 7, 8, 9]), []), ((.iconst 0, 1, []), []), ((.nop, 0, [0, 970832]), [])]
def b_X0_reads_80 : List (ev_I × List (Nat × Nat)) := [((.nop, 0, [1, 2, 6, 7, 8, 9]), []), ((.istore 6, 2, []), []), ((.iconst 0, 1, []), []), ((.istore 7, 2, []), []), ((.nop, 0, [0, 970837]), [])]
def b_X0_reads_85 : List (ev_I × List (Nat × Nat)) := [((.nop, 0, [1, 2, 8, 9]), []), ((.iload 7, 2, []), []), ((.iload 4, 2, []), []), ((.if_icmp .ge 95, 3, [970936]), []), ((.aload 5, 2, []), []), ((.getfield 395, 3, [1, 4, 4, 6]), []), ((.iload_n 3, 1, []), []), ((.iload 7, 2, []), []), ((.invokeinterface 399 3, 5, [1, 3, 0, 131, 135]), []), ((.istore 8, 2, []), []), ((.aload_n 0, 1, []), []), ((.getfield 53, 3, [0, 4, 9, 1]), []), ((.aload 5, 2, []), []), ((.getfield 237, 3, [1, 0, 0, 6]), []), ((.laload, 1, []), []), ((.iload 8, 2, []), []), ((.lshr, 1, []), []), ((.lconst 1, 1, []), []), ((.land, 1, []), []), ((.lconst 1, 1, []), []), ((.lcmp, 1, []), []), ((.ifCond .eq 20, 3, [970896]), []), ((.iload 6, 2, []), []), ((.ifCond .eq 19, 3, [970900]), []), ((.aload_n 1, 1, []), []), ((.iload_n 3, 1, []), []), ((.iload 8, 2, []), []), ((.iload 7, 2, []), []), ((.invokestatic 427, 3, [236, 4]), []), ((.ifCond .eq 7, 3, [970900]), []), ((.nop, 0, [0, 970896]), [])]
def b_X0_reads_144 : List (ev_I × List (Nat × Nat)) := [((.nop, 0, [1, 2, 9]), []), ((.iconst 1, 1, []), []), ((.goto 4, 3, [970901]), [])]
def b_X0_reads_148 : List (ev_I × List (Nat × Nat)) := [((.nop, 0, [1, 2, 9]), []), ((.iconst 0, 1, []), []), ((.nop, 0, [0, 970901]), [])]
def b_X0_reads_149 : List (ev_I × List (Nat × Nat)) := [((.nop, 0, [1, 2, 9]), []), ((.istore 9, 2, []), []), ((.iload 9, 2, []), []), ((.ifCond .ne 25, 3, [970930]), []), ((.aload_n 0, 1, []), []), ((.getfield 49, 3, [0, 4, 8, 1]), []), ((.iconst 3, 1, []), []), ((.aload 5, 2, []), []), ((.getfield 237, 3, [1, 0, 0, 6]), []), ((.iload_n 3, 1, []), []), ((.invokestatic 412, 3, [233, 3]), []), ((.dup2, 1, []), []), ((.laload, 1, []), []), ((.lconst 1, 1, []), []), ((.iload 8, 2, []), []), ((.lshl, 1, []), []), ((.lor, 1, []), []), ((.lastore, 1, []), []), ((.nop, 0, [0, 970930]), [])]
def b_X0_reads_178 : List (ev_I × List (Nat × Nat)) := [((.nop, 0, [1, 2, 8, 9]), []), ((.iinc 7 1, 3, []), []), ((.goto (-96), 3, [970837]), [])]
def b_X0_reads_184 : List (ev_I × List (Nat × Nat)) := [((.return_, 1, []), [])]
def tb_X0_reads : List (Nat × List (ev_I × List (Nat × Nat))) := [(0, b_X0_reads_0), (21, b_X0_reads_21), (22, b_X0_reads_22), (79, b_X0_reads_79), (80, b_X0_reads_80), (85, b_X0_reads_85), (144, b_X0_reads_144), (148, b_X0_reads_148), (149, b_X0_reads_149), (178, b_X0_reads_178), (184, b_X0_reads_184)]
def b_X1_isDoubtful_0 : List (ev_I × List (Nat × Nat)) := [((.aload_n 0, 1, []), []), ((.getfield 9, 3, [0, 0, 0, 3]), []), ((.bipush 11, 2, []), []), ((.if_icmp .lt 7, 3, [974861]), []), ((.iconst 1, 1, []), []), ((.goto 4, 3, [974862]), [])]
def b_X1_isDoubtful_13 : List (ev_I × List (Nat × Nat)) := [((.iconst 0, 1, []), []), ((.nop, 0, [0, 974862]), [])]
def b_X1_isDoubtful_14 : List (ev_I × List (Nat × Nat)) := [((.nop, 0, [1, 0]), []), ((.ireturn, 1, [5]), [])]
def tb_X1_isDoubtful : List (Nat × List (ev_I × List (Nat × Nat))) := [(0, b_X1_isDoubtful_0), (13, b_X1_isDoubtful_13), (14, b_X1_isDoubtful_14)]
def b_X0_goes_0 : List (ev_I × List (Nat × Nat)) := [((.iconst 0, 1, []), []), ((.istore_n 2, 1, []), []), ((.nop, 0, [0, 978946]), [])]
def b_X0_goes_2 : List (ev_I × List (Nat × Nat)) := [((.nop, 0, [1, 3, 4, 5, 6, 7, 8, 9, 10, 11]), []), ((.iload_n 2, 1, []), []), ((.bipush 6, 2, []), []), ((.if_icmp .ge 16, 3, [978965]), []), ((.aload_n 0, 1, []), []), ((.getfield 53, 3, [0, 4, 9, 1]), []), ((.iload_n 2, 1, []), []), ((.lconst 0, 1, []), []), ((.lastore, 1, []), []), ((.iinc 2 1, 3, []), []), ((.goto (-16), 3, [978946]), [])]
def b_X0_goes_21 : List (ev_I × List (Nat × Nat)) := [((.iconst 1, 1, []), []), ((.istore_n 2, 1, []), []), ((.iconst 0, 1, []), []), ((.istore_n 3, 1, []), []), ((.nop, 0, [0, 978969]), [])]
def b_X0_goes_25 : List (ev_I × List (Nat × Nat)) := [((.nop, 0, [1, 4, 5, 6, 7, 8, 9, 10, 11]), []), ((.iload_n 3, 1, []), []), ((.aload_n 0, 1, []), []), ((.getfield 34, 3, [0, 4, 3, 1]), []), ((.invokevirtual 208, 3, [1, 18, 117]), []), ((.if_icmp .ge 325, 3, [979302]), []), ((.aload_n 0, 1, []), []), ((.getfield 34, 3, [0, 4, 3, 1]), []), ((.iload_n 3, 1, []), []), ((.invokevirtual 230, 3, [2, 18, 133]), []), ((.checkcast 209, 3, [1, 5]), []), ((.astore 4, 2, []), []), ((.aload 4, 2, []), []), ((.iload_n 1, 1, []), []), ((.invokevirtual 338, 3, [2, 5, 167]), []), ((.ifCond .ne 6, 3, [979005]), []), ((.goto 294, 3, [979296]), [])]
def b_X0_goes_61 : List (ev_I × List (Nat × Nat)) := [((.aload_n 0, 1, []), []), ((.aload 4, 2, []), []), ((.iconst 1, 1, []), []), ((.invokevirtual 233, 3, [2, 5, 134]), []), ((.iload_n 1, 1, []), []), ((.aload 4, 2, []), []), ((.getfield 308, 3, [1, 0, 1, 5]), []), ((.invokevirtual 431, 3, [4, 1, 232]), []), ((.istore 5, 2, []), []), ((.aload 4, 2, []), []), ((.iconst 2, 1, []), []), ((.invokevirtual 344, 3, [2, 5, 209]), []), ((.ifCond .eq 22, 3, [979051]), []), ((.aload_n 0, 1, []), []), ((.aload 4, 2, []), []), ((.iconst 2, 1, []), []), ((.invokevirtual 233, 3, [2, 5, 134]), []), ((.iload_n 1, 1, []), []), ((.aload 4, 2, []), []), ((.getfield 308, 3, [1, 0, 1, 5]), []), ((.invokevirtual 431, 3, [4, 1, 232]), []), ((.goto 8, 3, [979056]), [])]
def b_X0_goes_107 : List (ev_I × List (Nat × Nat)) := [((.aload 4, 2, []), []), ((.getfield 308, 3, [1, 0, 1, 5]), []), ((.nop, 0, [0, 979056]), [])]
def b_X0_goes_112 : List (ev_I × List (Nat × Nat)) := [((.nop, 0, [1, 6, 7, 8, 9, 10, 11]), []), ((.istore 6, 2, []), []), ((.iload 5, 2, []), []), ((.iload 6, 2, []), []), ((.invokestatic 407, 3, [79, 2]), []), ((.aload_n 0, 1, []), []), ((.aload 4, 2, []), []), ((.iconst 0, 1, []), []), ((.invokevirtual 233, 3, [2, 5, 134]), []), ((.iload_n 1, 1, []), []), ((.aload 4, 2, []), []), ((.getfield 308, 3, [1, 0, 1, 5]), []), ((.invokevirtual 431, 3, [4, 1, 232]), []), ((.invokestatic 407, 3, [79, 2]), []), ((.istore 7, 2, []), []), ((.iload 7, 2, []), []), ((.aload 4, 2, []), []), ((.getfield 308, 3, [1, 0, 1, 5]), []), ((.if_icmp .ge 7, 3, [979100]), []), ((.iconst 1, 1, []), []), ((.goto 4, 3, [979101]), [])]
def b_X0_goes_156 : List (ev_I × List (Nat × Nat)) := [((.iconst 0, 1, []), []), ((.nop, 0, [0, 979101]), [])]
def b_X0_goes_157 : List (ev_I × List (Nat × Nat)) := [((.nop, 0, [1, 8, 9, 10, 11]), []), ((.istore 8, 2, []), []), ((.aload_n 0, 1, []), []), ((.aload 4, 2, []), []), ((.iconst 1, 1, []), []), ((.iload_n 1, 1, []), []), ((.iload 5, 2, []), []), ((.iload 7, 2, []), []), ((.iload 8, 2, []), []), ((.iadd, 1, []), []), ((.invokestatic 407, 3, [79, 2]), []), ((.invokevirtual 435, 3, [5, 1, 237]), []), ((.aload 4, 2, []), []), ((.iconst 2, 1, []), []), ((.invokevirtual 344, 3, [2, 5, 209]), []), ((.ifCond .eq 33, 3, [979160]), []), ((.aload_n 0, 1, []), []), ((.aload 4, 2, []), []), ((.iconst 2, 1, []), []), ((.iload_n 1, 1, []), []), ((.iload 6, 2, []), []), ((.iload 5, 2, []), []), ((.iload 7, 2, []), []), ((.if_icmp .le 11, 3, [979152]), []), ((.iload 7, 2, []), []), ((.iload 8, 2, []), []), ((.iadd, 1, []), []), ((.goto 5, 3, [979154]), [])]
def b_X0_goes_208 : List (ev_I × List (Nat × Nat)) := [((.iload 7, 2, []), []), ((.nop, 0, [0, 979154]), [])]
def b_X0_goes_210 : List (ev_I × List (Nat × Nat)) := [((.nop, 0, [1, 5, 6, 9, 10, 11]), []), ((.invokestatic 407, 3, [79, 2]), []), ((.invokevirtual 435, 3, [5, 1, 237]), []), ((.nop, 0, [0, 979160]), [])]
def b_X0_goes_216 : List (ev_I × List (Nat × Nat)) := [((.nop, 0, [1, 5, 6, 9, 10, 11]), []), ((.iload 7, 2, []), []), ((.ifCond .le 128, 3, [979290]), []), ((.aload 4, 2, []), []), ((.iconst 0, 1, []), []), ((.invokevirtual 233, 3, [2, 5, 134]), []), ((.getfield 237, 3, [1, 0, 0, 6]), []), ((.istore 9, 2, []), []), ((.aload_n 0, 1, []), []), ((.aload 4, 2, []), []), ((.iconst 0, 1, []), []), ((.invokevirtual 233, 3, [2, 5, 134]), []), ((.iload_n 1, 1, []), []), ((.iload 7, 2, []), []), ((.invokevirtual 416, 3, [4, 1, 234]), []), ((.lstore 10, 2, []), []), ((.iload_n 2, 1, []), []), ((.aload 4, 2, []), []), ((.getfield 420, 3, [1, 4, 0, 5]), []), ((.invokevirtual 439, 3, [1, 3, 238]), []), ((.ifCond .ne 7, 3, [979207]), []), ((.iconst 1, 1, []), []), ((.goto 4, 3, [979208]), [])]
def b_X0_goes_263 : List (ev_I × List (Nat × Nat)) := [((.iconst 0, 1, []), []), ((.nop, 0, [0, 979208]), [])]
def b_X0_goes_264 : List (ev_I × List (Nat × Nat)) := [((.nop, 0, [1, 2, 5, 6, 7]), []), ((.iand, 1, []), []), ((.istore_n 2, 1, []), []), ((.aload_n 0, 1, []), []), ((.getfield 49, 3, [0, 4, 8, 1]), []), ((.iconst 1, 1, []), []), ((.iload 9, 2, []), []), ((.iload_n 1, 1, []), []), ((.invokestatic 412, 3, [233, 3]), []), ((.dup2, 1, []), []), ((.laload, 1, []), []), ((.lload 10, 2, []), []), ((.lor, 1, []), []), ((.lastore, 1, []), []), ((.aload_n 0, 1, []), []), ((.getfield 53, 3, [0, 4, 9, 1]), []), ((.iload 9, 2, []), []), ((.dup2, 1, []), []), ((.laload, 1, []), []), ((.aload 4, 2, []), []), ((.getfield 420, 3, [1, 4, 0, 5]), []), ((.invokevirtual 424, 3, [1, 3, 235]), []), ((.ifCond .eq 8, 3, [979251]), []), ((.lload 10, 2, []), []), ((.goto 4, 3, [979252]), [])]
def b_X0_goes_307 : List (ev_I × List (Nat × Nat)) := [((.lconst 0, 1, []), []), ((.nop, 0, [0, 979252]), [])]
def b_X0_goes_308 : List (ev_I × List (Nat × Nat)) := [((.nop, 0, [1, 5, 6, 7]), []), ((.lor, 1, []), []), ((.lastore, 1, []), []), ((.aload_n 0, 1, []), []), ((.getfield 49, 3, [0, 4, 8, 1]), []), ((.iconst 2, 1, []), []), ((.iload 9, 2, []), []), ((.iload_n 1, 1, []), []), ((.invokestatic 412, 3, [233, 3]), []), ((.dup2, 1, []), []), ((.laload, 1, []), []), ((.iload_n 2, 1, []), []), ((.ifCond .eq 19, 3, [979287]), []), ((.aload 4, 2, []), []), ((.getfield 420, 3, [1, 4, 0, 5]), []), ((.invokevirtual 424, 3, [1, 3, 235]), []), ((.ifCond .eq 8, 3, [979287]), []), ((.lload 10, 2, []), []), ((.goto 4, 3, [979288]), [])]
def b_X0_goes_343 : List (ev_I × List (Nat × Nat)) := [((.nop, 0, [1, 4, 5, 6, 7, 9, 10, 11]), []), ((.lconst 0, 1, []), []), ((.nop, 0, [0, 979288]), [])]
def b_X0_goes_344 : List (ev_I × List (Nat × Nat)) := [((.nop, 0, [1, 4, 5, 6, 7, 9, 10, 11]), []), ((.lor, 1, []), []), ((.lastore, 1, []), []), ((.nop, 0, [0, 979290]), [])]
def b_X0_goes_346 : List (ev_I × List (Nat × Nat)) := [((.nop, 0, [1, 4, 5, 6, 7, 9, 10, 11]), []), ((.iload 8, 2, []), []), ((.ifCond .le 4, 3, [979296]), []), ((.return_, 1, []), [])]
def b_X0_goes_352 : List (ev_I × List (Nat × Nat)) := [((.nop, 0, [1, 4, 5, 6, 7, 8, 9, 10, 11]), []), ((.iinc 3 1, 3, []), []), ((.goto (-330), 3, [978969]), [])]
def b_X0_goes_358 : List (ev_I × List (Nat × Nat)) := [((.return_, 1, []), [])]
def tb_X0_goes : List (Nat × List (ev_I × List (Nat × Nat))) := [(0, b_X0_goes_0), (2, b_X0_goes_2), (21, b_X0_goes_21), (25, b_X0_goes_25), (61, b_X0_goes_61), (107, b_X0_goes_107), (112, b_X0_goes_112), (156, b_X0_goes_156), (157, b_X0_goes_157), (208, b_X0_goes_208), (210, b_X0_goes_210), (216, b_X0_goes_216), (263, b_X0_goes_263), (264, b_X0_goes_264), (307, b_X0_goes_307), (308, b_X0_goes_308), (343, b_X0_goes_343), (344, b_X0_goes_344), (346, b_X0_goes_346), (352, b_X0_goes_352), (358, b_X0_goes_358)]
def b_X0_knows_0 : List (ev_I × List (Nat × Nat)) := [((.iconst 0, 1, []), []), ((.istore_n 1, 1, []), []), ((.nop, 0, [0, 983042]), [])]
def b_X0_knows_2 : List (ev_I × List (Nat × Nat)) := [((.iload_n 1, 1, []), []), ((.aload_n 0, 1, []), []), ((.getfield 49, 3, [0, 4, 8, 1]), []), ((.arraylength, 1, []), []), ((.if_icmp .ge 16, 3, [983064]), []), ((.aload_n 0, 1, []), []), ((.getfield 49, 3, [0, 4, 8, 1]), []), ((.iload_n 1, 1, []), []), ((.lconst 0, 1, []), []), ((.lastore, 1, []), []), ((.iinc 1 1, 3, []), []), ((.goto (-19), 3, [983042]), [])]
def b_X0_knows_24 : List (ev_I × List (Nat × Nat)) := [((.iconst 0, 1, []), []), ((.istore_n 1, 1, []), []), ((.nop, 0, [0, 983066]), [])]
def b_X0_knows_26 : List (ev_I × List (Nat × Nat)) := [((.iload_n 1, 1, []), []), ((.aload_n 0, 1, []), []), ((.getfield 173, 3, [0, 0, 4, 1]), []), ((.if_icmp .ge 14, 3, [983085]), []), ((.aload_n 0, 1, []), []), ((.iload_n 1, 1, []), []), ((.invokevirtual 442, 3, [2, 1, 239]), []), ((.iinc 1 1, 3, []), []), ((.goto (-16), 3, [983066]), [])]
def b_X0_knows_45 : List (ev_I × List (Nat × Nat)) := [((.return_, 1, []), [])]
def tb_X0_knows : List (Nat × List (ev_I × List (Nat × Nat))) := [(0, b_X0_knows_0), (2, b_X0_knows_2), (24, b_X0_knows_24), (26, b_X0_knows_26), (45, b_X0_knows_45)]
def b_X0_bitsOf_0 : List (ev_I × List (Nat × Nat)) := [((.iload_n 3, 1, []), []), ((.iconst (-1), 1, []), []), ((.if_icmp .eq 15, 3, [987153]), []), ((.aload_n 0, 1, []), []), ((.getfield 49, 3, [0, 4, 8, 1]), []), ((.iload_n 1, 1, []), []), ((.iload_n 2, 1, []), []), ((.iload_n 3, 1, []), []), ((.invokestatic 412, 3, [233, 3]), []), ((.laload, 1, []), []), ((.lreturn, 1, []), [])]
def b_X0_bitsOf_17 : List (ev_I × List (Nat × Nat)) := [((.lconst 0, 1, []), []), ((.lstore 4, 2, []), []), ((.iconst 0, 1, []), []), ((.istore 6, 2, []), []), ((.nop, 0, [0, 987159]), [])]
def b_X0_bitsOf_23 : List (ev_I × List (Nat × Nat)) := [((.nop, 0, [1, 3]), []), ((.iload 6, 2, []), []), ((.aload_n 0, 1, []), []), ((.getfield 173, 3, [0, 0, 4, 1]), []), ((.if_icmp .ge 26, 3, [987191]), []), ((.lload 4, 2, []), []), ((.aload_n 0, 1, []), []), ((.getfield 49, 3, [0, 4, 8, 1]), []), ((.iload_n 1, 1, []), []), ((.iload_n 2, 1, []), []), ((.iload 6, 2, []), []), ((.invokestatic 412, 3, [233, 3]), []), ((.laload, 1, []), []), ((.lor, 1, []), []), ((.lstore 4, 2, []), []), ((.iinc 6 1, 3, []), []), ((.goto (-29), 3, [987159]), [])]
def b_X0_bitsOf_55 : List (ev_I × List (Nat × Nat)) := [((.lload 4, 2, []), []), ((.lreturn, 1, []), [])]
def tb_X0_bitsOf : List (Nat × List (ev_I × List (Nat × Nat))) := [(0, b_X0_bitsOf_0), (17, b_X0_bitsOf_17), (23, b_X0_bitsOf_23), (55, b_X0_bitsOf_55)]
def b_J10_bitCount_0 : List (ev_I × List (Nat × Nat)) := [((.lload_n 0, 1, []), []), ((.lload_n 0, 1, []), []), ((.iconst 1, 1, []), []), ((.lushr, 1, []), []), ((.ldc2_w 314, 3, [0, 0, 6148914691236517205]), []), ((.land, 1, []), []), ((.lsub, 1, []), []), ((.lstore_n 0, 1, []), []), ((.lload_n 0, 1, []), []), ((.ldc2_w 316, 3, [0, 0, 3689348814741910323]), []), ((.land, 1, []), []), ((.lload_n 0, 1, []), []), ((.iconst 2, 1, []), []), ((.lushr, 1, []), []), ((.ldc2_w 316, 3, [0, 0, 3689348814741910323]), []), ((.land, 1, []), []), ((.ladd, 1, []), []), ((.lstore_n 0, 1, []), []), ((.lload_n 0, 1, []), []), ((.lload_n 0, 1, []), []), ((.iconst 4, 1, []), []), ((.lushr, 1, []), []), ((.ladd, 1, []), []), ((.ldc2_w 318, 3, [0, 0, 1085102592571150095]), []), ((.land, 1, []), []), ((.lstore_n 0, 1, []), []), ((.lload_n 0, 1, []), []), ((.lload_n 0, 1, []), []), ((.bipush 8, 2, []), []), ((.lushr, 1, []), []), ((.ladd, 1, []), []), ((.lstore_n 0, 1, []), []), ((.lload_n 0, 1, []), []), ((.lload_n 0, 1, []), []), ((.bipush 16, 2, []), []), ((.lushr, 1, []), []), ((.ladd, 1, []), []), ((.lstore_n 0, 1, []), []), ((.lload_n 0, 1, []), []), ((.lload_n 0, 1, []), []), ((.bipush 32, 2, []), []), ((.lushr, 1, []), []), ((.ladd, 1, []), []), ((.lstore_n 0, 1, []), []), ((.lload_n 0, 1, []), []), ((.l2i, 1, []), []), ((.bipush 127, 2, []), []), ((.iand, 1, []), []), ((.ireturn, 1, []), [])]
def tb_J10_bitCount : List (Nat × List (ev_I × List (Nat × Nat))) := [(0, b_J10_bitCount_0)]
def b_X0_many_0 : List (ev_I × List (Nat × Nat)) := [((.aload_n 0, 1, []), []), ((.iload_n 1, 1, []), []), ((.iload_n 2, 1, []), []), ((.iload_n 3, 1, []), []), ((.invokevirtual 445, 3, [4, 1, 231]), []), ((.ifCond .ne 6, 3, [995341]), []), ((.bipush (-2), 2, []), []), ((.ireturn, 1, []), [])]
def b_X0_many_13 : List (ev_I × List (Nat × Nat)) := [((.aload_n 0, 1, []), []), ((.invokevirtual 449, 3, [1, 1, 240]), []), ((.aload_n 0, 1, []), []), ((.iload_n 1, 1, []), []), ((.iload_n 2, 1, []), []), ((.iload_n 3, 1, []), []), ((.invokevirtual 452, 3, [4, 1, 241]), []), ((.invokestatic 456, 3, [242, 1]), []), ((.ireturn, 1, []), [])]
def tb_X0_many : List (Nat × List (ev_I × List (Nat × Nat))) := [(0, b_X0_many_0), (13, b_X0_many_13)]
def b_X3_isSet_0 : List (ev_I × List (Nat × Nat)) := [((.iload_n 1, 1, []), []), ((.iconst 0, 1, []), []), ((.iconst 3, 1, []), []), ((.invokestatic 114, 3, [49, 3]), []), ((.ifCond .eq 28, 3, [999458]), []), ((.iload_n 2, 1, []), []), ((.invokestatic 122, 3, [50, 1]), []), ((.ifCond .eq 21, 3, [999458]), []), ((.iload_n 3, 1, []), []), ((.iconst (-1), 1, []), []), ((.aload_n 0, 1, []), []), ((.getfield 154, 3, [0, 0, 6, 2]), []), ((.iconst 1, 1, []), []), ((.isub, 1, []), []), ((.invokestatic 114, 3, [49, 3]), []), ((.ifCond .eq 7, 3, [999458]), []), ((.iconst 1, 1, []), []), ((.goto 4, 3, [999459]), [])]
def b_X3_isSet_34 : List (ev_I × List (Nat × Nat)) := [((.nop, 0, [1, 0, 1, 2, 3]), []), ((.iconst 0, 1, []), []), ((.nop, 0, [0, 999459]), [])]
def b_X3_isSet_35 : List (ev_I × List (Nat × Nat)) := [((.nop, 0, [1, 0, 1, 2, 3]), []), ((.ireturn, 1, [5]), [])]
def tb_X3_isSet : List (Nat × List (ev_I × List (Nat × Nat))) := [(0, b_X3_isSet_0), (34, b_X3_isSet_34), (35, b_X3_isSet_35)]
def b_X3_bitAt_0 : List (ev_I × List (Nat × Nat)) := [((.aload_n 0, 1, []), []), ((.getfield 41, 3, [0, 4, 13, 2]), []), ((.iload_n 1, 1, []), []), ((.iaload, 1, []), []), ((.istore 4, 2, []), []), ((.aload_n 0, 1, []), []), ((.iload_n 1, 1, []), []), ((.iload_n 2, 1, []), []), ((.iload_n 3, 1, []), []), ((.invokevirtual 200, 3, [4, 2, 194]), []), ((.istore 5, 2, []), []), ((.aload_n 0, 1, []), []), ((.getfield 7, 3, [0, 4, 0, 2]), []), ((.iload 4, 2, []), []), ((.iaload, 1, []), []), ((.invokestatic 185, 3, [172, 1]), []), ((.ifCond .eq 28, 3, [1003575]), []), ((.iload 5, 2, []), []), ((.iconst 0, 1, []), []), ((.aload_n 0, 1, []), []), ((.getfield 13, 3, [0, 4, 1, 2]), []), ((.iload 4, 2, []), []), ((.iaload, 1, []), []), ((.iconst 1, 1, []), []), ((.isub, 1, []), []), ((.invokestatic 114, 3, [49, 3]), []), ((.ifCond .eq 10, 3, [1003575]), []), ((.iconst 1, 1, []), []), ((.iload 5, 2, []), []), ((.ishl, 1, []), []), ((.goto 4, 3, [1003576]), [])]
def b_X3_bitAt_55 : List (ev_I × List (Nat × Nat)) := [((.nop, 0, [1, 0, 1, 2, 3, 4, 5]), []), ((.iconst 0, 1, []), []), ((.nop, 0, [0, 1003576]), [])]
def b_X3_bitAt_56 : List (ev_I × List (Nat × Nat)) := [((.nop, 0, [1, 0, 1, 2, 3, 4, 5]), []), ((.ireturn, 1, []), [])]
def tb_X3_bitAt : List (Nat × List (ev_I × List (Nat × Nat))) := [(0, b_X3_bitAt_0), (55, b_X3_bitAt_55), (56, b_X3_bitAt_56)]
def b_X3_reads_0 : List (ev_I × List (Nat × Nat)) := [((.aload_n 0, 1, []), []), ((.iload_n 1, 1, []), []), ((.invokevirtual 228, 3, [2, 2, 214]), []), ((.ifCond .ne 5, 3, [1007626]), []), ((.iconst 1, 1, []), []), ((.ireturn, 1, [5]), [])]
def b_X3_reads_10 : List (ev_I × List (Nat × Nat)) := [((.aload_n 0, 1, []), []), ((.iload_n 1, 1, []), []), ((.iload_n 2, 1, []), []), ((.iload_n 3, 1, []), []), ((.invokevirtual 242, 3, [4, 2, 245]), []), ((.istore 4, 2, []), []), ((.aload_n 0, 1, []), []), ((.getfield 41, 3, [0, 4, 13, 2]), []), ((.iload_n 1, 1, []), []), ((.iaload, 1, []), []), ((.istore 5, 2, []), []), ((.aload_n 0, 1, []), []), ((.getfield 62, 3, [0, 4, 23, 2]), []), ((.bipush 24, 2, []), []), ((.iload_n 2, 1, []), []), ((.imul, 1, []), []), ((.iload 5, 2, []), []), ((.iadd, 1, []), []), ((.dup2, 1, []), []), ((.iaload, 1, []), []), ((.iload 4, 2, []), []), ((.ior, 1, []), []), ((.iastore, 1, []), []), ((.aload_n 0, 1, []), []), ((.getfield 62, 3, [0, 4, 23, 2]), []), ((.bipush 24, 2, []), []), ((.iload_n 2, 1, []), []), ((.imul, 1, []), []), ((.bipush 18, 2, []), []), ((.iadd, 1, []), []), ((.iload 5, 2, []), []), ((.iadd, 1, []), []), ((.dup2, 1, []), []), ((.iaload, 1, []), []), ((.iload 4, 2, []), []), ((.aload_n 0, 1, []), []), ((.getfield 65, 3, [0, 4, 24, 2]), []), ((.iload 5, 2, []), []), ((.iaload, 1, []), []), ((.iconst (-1), 1, []), []), ((.ixor, 1, []), []), ((.iand, 1, []), []), ((.ior, 1, []), []), ((.iastore, 1, []), []), ((.iload 4, 2, []), []), ((.ifCond .eq 7, 3, [1007699]), []), ((.iconst 1, 1, []), []), ((.goto 4, 3, [1007700]), [])]
def b_X3_reads_83 : List (ev_I × List (Nat × Nat)) := [((.iconst 0, 1, []), []), ((.nop, 0, [0, 1007700]), [])]
def b_X3_reads_84 : List (ev_I × List (Nat × Nat)) := [((.nop, 0, [1, 0, 1, 2, 3, 4, 5]), []), ((.ireturn, 1, [5]), [])]
def tb_X3_reads : List (Nat × List (ev_I × List (Nat × Nat))) := [(0, b_X3_reads_0), (10, b_X3_reads_10), (83, b_X3_reads_83), (84, b_X3_reads_84)]
def b_X3_knows_0 : List (ev_I × List (Nat × Nat)) := [((.aload_n 0, 1, []), []), ((.iconst 3, 1, []), []), ((.iload_n 1, 1, []), []), ((.imul, 1, []), []), ((.iconst 1, 1, []), []), ((.iadd, 1, []), []), ((.iload_n 2, 1, []), []), ((.iload_n 3, 1, []), []), ((.invokevirtual 245, 3, [4, 2, 246]), []), ((.ifCond .eq 17, 3, [1011740]), []), ((.aload_n 0, 1, []), []), ((.iconst 3, 1, []), []), ((.iload_n 1, 1, []), []), ((.imul, 1, []), []), ((.iconst 2, 1, []), []), ((.iadd, 1, []), []), ((.iload_n 2, 1, []), []), ((.iload_n 3, 1, []), []), ((.invokevirtual 245, 3, [4, 2, 246]), []), ((.ifCond .ne 5, 3, [1011742]), []), ((.nop, 0, [0, 1011740]), [])]
def b_X3_knows_28 : List (ev_I × List (Nat × Nat)) := [((.nop, 0, [1, 0, 1, 2, 3, 4, 5, 6]), []), ((.iconst 0, 1, []), []), ((.ireturn, 1, [5]), [])]
def b_X3_knows_30 : List (ev_I × List (Nat × Nat)) := [((.aload_n 0, 1, []), []), ((.iconst 3, 1, []), []), ((.iload_n 1, 1, []), []), ((.imul, 1, []), []), ((.iload_n 2, 1, []), []), ((.iload_n 3, 1, []), []), ((.invokevirtual 242, 3, [4, 2, 245]), []), ((.istore 4, 2, []), []), ((.aload_n 0, 1, []), []), ((.getfield 41, 3, [0, 4, 13, 2]), []), ((.iconst 3, 1, []), []), ((.iload_n 1, 1, []), []), ((.imul, 1, []), []), ((.iaload, 1, []), []), ((.istore 5, 2, []), []), ((.aload_n 0, 1, []), []), ((.getfield 26, 3, [0, 4, 8, 2]), []), ((.iload_n 1, 1, []), []), ((.iaload, 1, []), []), ((.istore 6, 2, []), []), ((.aload_n 0, 1, []), []), ((.aload_n 0, 1, []), []), ((.getfield 248, 3, [0, 5, 25, 2]), []), ((.ifCond .ne 15, 3, [1011791]), []), ((.iload 4, 2, []), []), ((.ifCond .eq 14, 3, [1011795]), []), ((.iload 6, 2, []), []), ((.bipush 11, 2, []), []), ((.if_icmp .lt 7, 3, [1011795]), []), ((.nop, 0, [0, 1011791]), [])]
def b_X3_knows_79 : List (ev_I × List (Nat × Nat)) := [((.nop, 0, [1, 1, 3]), []), ((.iconst 1, 1, []), []), ((.goto 4, 3, [1011796]), [])]
def b_X3_knows_83 : List (ev_I × List (Nat × Nat)) := [((.nop, 0, [1, 1, 3]), []), ((.iconst 0, 1, []), []), ((.nop, 0, [0, 1011796]), [])]
def b_X3_knows_84 : List (ev_I × List (Nat × Nat)) := [((.nop, 0, [1, 1, 3]), []), ((.putfield 248, 3, [0, 5, 25, 2]), []), ((.aload_n 0, 1, []), []), ((.getfield 62, 3, [0, 4, 23, 2]), []), ((.bipush 24, 2, []), []), ((.iload_n 2, 1, []), []), ((.imul, 1, []), []), ((.bipush 6, 2, []), []), ((.iadd, 1, []), []), ((.iload 5, 2, []), []), ((.iadd, 1, []), []), ((.dup2, 1, []), []), ((.iaload, 1, []), []), ((.iload 4, 2, []), []), ((.ior, 1, []), []), ((.iastore, 1, []), []), ((.aload_n 0, 1, []), []), ((.getfield 62, 3, [0, 4, 23, 2]), []), ((.bipush 24, 2, []), []), ((.iload_n 2, 1, []), []), ((.imul, 1, []), []), ((.bipush 12, 2, []), []), ((.iadd, 1, []), []), ((.iload 5, 2, []), []), ((.iadd, 1, []), []), ((.dup2, 1, []), []), ((.iaload, 1, []), []), ((.iload 6, 2, []), []), ((.bipush 10, 2, []), []), ((.if_icmp .eq 10, 3, [1011849]), []), ((.aload_n 0, 1, []), []), ((.getfield 248, 3, [0, 5, 25, 2]), []), ((.ifCond .eq 7, 3, [1011853]), []), ((.nop, 0, [0, 1011849]), [])]
def b_X3_knows_137 : List (ev_I × List (Nat × Nat)) := [((.nop, 0, [1, 1, 2, 3]), []), ((.iconst 0, 1, []), []), ((.goto 5, 3, [1011855]), [])]
def b_X3_knows_141 : List (ev_I × List (Nat × Nat)) := [((.iload 4, 2, []), []), ((.nop, 0, [0, 1011855]), [])]
def b_X3_knows_143 : List (ev_I × List (Nat × Nat)) := [((.nop, 0, [1, 1, 2, 3]), []), ((.ior, 1, []), []), ((.iastore, 1, []), []), ((.aload_n 0, 1, []), []), ((.getfield 65, 3, [0, 4, 24, 2]), []), ((.iload 5, 2, []), []), ((.dup2, 1, []), []), ((.iaload, 1, []), []), ((.iload 6, 2, []), []), ((.bipush 10, 2, []), []), ((.if_icmp .ne 7, 3, [1011876]), []), ((.iconst 0, 1, []), []), ((.goto 5, 3, [1011878]), [])]
def b_X3_knows_164 : List (ev_I × List (Nat × Nat)) := [((.iload 4, 2, []), []), ((.nop, 0, [0, 1011878]), [])]
def b_X3_knows_166 : List (ev_I × List (Nat × Nat)) := [((.nop, 0, [1, 0, 1, 2, 3, 5, 6]), []), ((.ior, 1, []), []), ((.iastore, 1, []), []), ((.iload 4, 2, []), []), ((.ifCond .eq 7, 3, [1011889]), []), ((.iconst 1, 1, []), []), ((.goto 4, 3, [1011890]), [])]
def b_X3_knows_177 : List (ev_I × List (Nat × Nat)) := [((.iconst 0, 1, []), []), ((.nop, 0, [0, 1011890]), [])]
def b_X3_knows_178 : List (ev_I × List (Nat × Nat)) := [((.nop, 0, [1, 0, 1, 2, 3, 4, 5, 6]), []), ((.ireturn, 1, [5]), [])]
def tb_X3_knows : List (Nat × List (ev_I × List (Nat × Nat))) := [(0, b_X3_knows_0), (28, b_X3_knows_28), (30, b_X3_knows_30), (79, b_X3_knows_79), (83, b_X3_knows_83), (84, b_X3_knows_84), (137, b_X3_knows_137), (141, b_X3_knows_141), (143, b_X3_knows_143), (164, b_X3_knows_164), (166, b_X3_knows_166), (177, b_X3_knows_177), (178, b_X3_knows_178)]
def b_X3_findsTurn_0 : List (ev_I × List (Nat × Nat)) := [((.aload_n 0, 1, []), []), ((.iconst 0, 1, []), []), ((.putfield 248, 3, [0, 5, 25, 2]), []), ((.iconst 0, 1, []), []), ((.istore_n 2, 1, []), []), ((.nop, 0, [0, 1015815]), [])]
def b_X3_findsTurn_7 : List (ev_I × List (Nat × Nat)) := [((.nop, 0, [1, 3, 4]), []), ((.iload_n 2, 1, []), []), ((.bipush 6, 2, []), []), ((.if_icmp .ge 16, 3, [1015834]), []), ((.aload_n 0, 1, []), []), ((.getfield 65, 3, [0, 4, 24, 2]), []), ((.iload_n 2, 1, []), []), ((.iconst 0, 1, []), []), ((.iastore, 1, []), []), ((.iinc 2 1, 3, []), []), ((.goto (-16), 3, [1015815]), [])]
def b_X3_findsTurn_26 : List (ev_I × List (Nat × Nat)) := [((.iconst 1, 1, []), []), ((.istore_n 2, 1, []), []), ((.iconst 0, 1, []), []), ((.istore_n 3, 1, []), []), ((.nop, 0, [0, 1015838]), [])]
def b_X3_findsTurn_30 : List (ev_I × List (Nat × Nat)) := [((.nop, 0, [1, 4]), []), ((.iload_n 3, 1, []), []), ((.aload_n 0, 1, []), []), ((.getfield 171, 3, [0, 0, 7, 2]), []), ((.if_icmp .ge 55, 3, [1015898]), []), ((.iload_n 2, 1, []), []), ((.ifCond .eq 51, 3, [1015898]), []), ((.iconst 0, 1, []), []), ((.istore 4, 2, []), []), ((.nop, 0, [0, 1015853]), [])]
def b_X3_findsTurn_45 : List (ev_I × List (Nat × Nat)) := [((.iload 4, 2, []), []), ((.aload_n 0, 1, []), []), ((.getfield 29, 3, [0, 4, 9, 2]), []), ((.iload_n 3, 1, []), []), ((.iaload, 1, []), []), ((.if_icmp .ge 31, 3, [1015892]), []), ((.iload_n 2, 1, []), []), ((.ifCond .eq 27, 3, [1015892]), []), ((.aload_n 0, 1, []), []), ((.iload_n 3, 1, []), []), ((.iload_n 1, 1, []), []), ((.invokevirtual 177, 3, [3, 2, 174]), []), ((.ifCond .eq 18, 3, [1015892]), []), ((.aload_n 0, 1, []), []), ((.iload_n 3, 1, []), []), ((.iload_n 1, 1, []), []), ((.iload 4, 2, []), []), ((.invokevirtual 252, 3, [4, 2, 247]), []), ((.istore_n 2, 1, []), []), ((.iinc 4 1, 3, []), []), ((.goto (-36), 3, [1015853]), [])]
def b_X3_findsTurn_84 : List (ev_I × List (Nat × Nat)) := [((.nop, 0, [1, 4]), []), ((.iinc 3 1, 3, []), []), ((.goto (-57), 3, [1015838]), [])]
def b_X3_findsTurn_90 : List (ev_I × List (Nat × Nat)) := [((.nop, 0, [1, 0, 1, 2, 3, 4]), []), ((.return_, 1, []), [])]
def tb_X3_findsTurn : List (Nat × List (ev_I × List (Nat × Nat))) := [(0, b_X3_findsTurn_0), (7, b_X3_findsTurn_7), (26, b_X3_findsTurn_26), (30, b_X3_findsTurn_30), (45, b_X3_findsTurn_45), (84, b_X3_findsTurn_84), (90, b_X3_findsTurn_90)]
def b_X3_findsSets_0 : List (ev_I × List (Nat × Nat)) := [((.iconst 0, 1, []), []), ((.istore_n 1, 1, []), []), ((.nop, 0, [0, 1019906]), [])]
def b_X3_findsSets_2 : List (ev_I × List (Nat × Nat)) := [((.iload_n 1, 1, []), []), ((.sipush 240, 3, []), []), ((.if_icmp .ge 16, 3, [1019926]), []), ((.aload_n 0, 1, []), []), ((.getfield 62, 3, [0, 4, 23, 2]), []), ((.iload_n 1, 1, []), []), ((.iconst 0, 1, []), []), ((.iastore, 1, []), []), ((.iinc 1 1, 3, []), []), ((.goto (-17), 3, [1019906]), [])]
def b_X3_findsSets_22 : List (ev_I × List (Nat × Nat)) := [((.iconst 0, 1, []), []), ((.istore_n 1, 1, []), []), ((.nop, 0, [0, 1019928]), [])]
def b_X3_findsSets_24 : List (ev_I × List (Nat × Nat)) := [((.iload_n 1, 1, []), []), ((.aload_n 0, 1, []), []), ((.getfield 154, 3, [0, 0, 6, 2]), []), ((.if_icmp .ge 14, 3, [1019947]), []), ((.aload_n 0, 1, []), []), ((.iload_n 1, 1, []), []), ((.invokevirtual 255, 3, [2, 2, 248]), []), ((.iinc 1 1, 3, []), []), ((.goto (-16), 3, [1019928]), [])]
def b_X3_findsSets_43 : List (ev_I × List (Nat × Nat)) := [((.return_, 1, []), [])]
def tb_X3_findsSets : List (Nat × List (ev_I × List (Nat × Nat))) := [(0, b_X3_findsSets_0), (2, b_X3_findsSets_2), (22, b_X3_findsSets_22), (24, b_X3_findsSets_24), (43, b_X3_findsSets_43)]
def b_X3_bitsOfTurn_0 : List (ev_I × List (Nat × Nat)) := [((.aload_n 0, 1, []), []), ((.getfield 62, 3, [0, 4, 23, 2]), []), ((.bipush 24, 2, []), []), ((.iload_n 3, 1, []), []), ((.imul, 1, []), []), ((.bipush 6, 2, []), []), ((.iload_n 1, 1, []), []), ((.imul, 1, []), []), ((.iadd, 1, []), []), ((.iload_n 2, 1, []), []), ((.iadd, 1, []), []), ((.iaload, 1, []), []), ((.ireturn, 1, []), [])]
def tb_X3_bitsOfTurn : List (Nat × List (ev_I × List (Nat × Nat))) := [(0, b_X3_bitsOfTurn_0)]
def b_X3_bitsOfSet_0 : List (ev_I × List (Nat × Nat)) := [((.aload_n 0, 1, []), []), ((.invokevirtual 259, 3, [1, 2, 249]), []), ((.iconst 0, 1, []), []), ((.istore 4, 2, []), []), ((.iconst 0, 1, []), []), ((.istore 5, 2, []), []), ((.nop, 0, [0, 1028106]), [])]
def b_X3_bitsOfSet_10 : List (ev_I × List (Nat × Nat)) := [((.iload 5, 2, []), []), ((.aload_n 0, 1, []), []), ((.getfield 154, 3, [0, 0, 6, 2]), []), ((.if_icmp .ge 37, 3, [1028149]), []), ((.iload 4, 2, []), []), ((.iload_n 3, 1, []), []), ((.iconst (-1), 1, []), []), ((.if_icmp .eq 9, 3, [1028128]), []), ((.iload_n 3, 1, []), []), ((.iload 5, 2, []), []), ((.if_icmp .ne 14, 3, [1028139]), []), ((.nop, 0, [0, 1028128]), [])]
def b_X3_bitsOfSet_32 : List (ev_I × List (Nat × Nat)) := [((.nop, 0, [1, 4]), []), ((.aload_n 0, 1, []), []), ((.iload_n 1, 1, []), []), ((.iload_n 2, 1, []), []), ((.iload 5, 2, []), []), ((.invokevirtual 262, 3, [4, 2, 250]), []), ((.goto 4, 3, [1028140]), [])]
def b_X3_bitsOfSet_43 : List (ev_I × List (Nat × Nat)) := [((.iconst 0, 1, []), []), ((.nop, 0, [0, 1028140]), [])]
def b_X3_bitsOfSet_44 : List (ev_I × List (Nat × Nat)) := [((.nop, 0, [1, 4]), []), ((.ior, 1, []), []), ((.istore 4, 2, []), []), ((.iinc 5 1, 3, []), []), ((.goto (-40), 3, [1028106]), [])]
def b_X3_bitsOfSet_53 : List (ev_I × List (Nat × Nat)) := [((.iload 4, 2, []), []), ((.ireturn, 1, []), [])]
def tb_X3_bitsOfSet : List (Nat × List (ev_I × List (Nat × Nat))) := [(0, b_X3_bitsOfSet_0), (10, b_X3_bitsOfSet_10), (32, b_X3_bitsOfSet_32), (43, b_X3_bitsOfSet_43), (44, b_X3_bitsOfSet_44), (53, b_X3_bitsOfSet_53)]
def b_X3_size_0 : List (ev_I × List (Nat × Nat)) := [((.iconst 0, 1, []), []), ((.istore_n 1, 1, []), []), ((.iconst 0, 1, []), []), ((.istore_n 2, 1, []), []), ((.nop, 0, [0, 1032196]), [])]
def b_X3_size_4 : List (ev_I × List (Nat × Nat)) := [((.iload_n 2, 1, []), []), ((.bipush 24, 2, []), []), ((.if_icmp .ge 17, 3, [1032216]), []), ((.iload_n 1, 1, []), []), ((.iload_n 0, 1, []), []), ((.iload_n 2, 1, []), []), ((.ishr, 1, []), []), ((.iconst 1, 1, []), []), ((.iand, 1, []), []), ((.iadd, 1, []), []), ((.istore_n 1, 1, []), []), ((.iinc 2 1, 3, []), []), ((.goto (-17), 3, [1032196]), [])]
def b_X3_size_24 : List (ev_I × List (Nat × Nat)) := [((.iload_n 1, 1, []), []), ((.ireturn, 1, []), [])]
def tb_X3_size : List (Nat × List (ev_I × List (Nat × Nat))) := [(0, b_X3_size_0), (4, b_X3_size_4), (24, b_X3_size_24)]
def b_X3_many_0 : List (ev_I × List (Nat × Nat)) := [((.aload_n 0, 1, []), []), ((.iload_n 1, 1, []), []), ((.iload_n 2, 1, []), []), ((.iload_n 3, 1, []), []), ((.invokevirtual 265, 3, [4, 2, 244]), []), ((.ifCond .eq 16, 3, [1036311]), []), ((.aload_n 0, 1, []), []), ((.iload_n 1, 1, []), []), ((.iload_n 2, 1, []), []), ((.iload_n 3, 1, []), []), ((.invokevirtual 268, 3, [4, 2, 251]), []), ((.invokestatic 271, 3, [252, 1]), []), ((.goto 5, 3, [1036313]), [])]
def b_X3_many_23 : List (ev_I × List (Nat × Nat)) := [((.bipush (-2), 2, []), []), ((.nop, 0, [0, 1036313]), [])]
def b_X3_many_25 : List (ev_I × List (Nat × Nat)) := [((.nop, 0, [1, 0, 1, 2, 3]), []), ((.ireturn, 1, []), [])]
def tb_X3_many : List (Nat × List (ev_I × List (Nat × Nat))) := [(0, b_X3_many_0), (23, b_X3_many_23), (25, b_X3_many_25)]
def b_J11_numberOfTrailingZeros_0 : List (ev_I × List (Nat × Nat)) := [((.iload_n 0, 1, []), []), ((.iconst (-1), 1, []), []), ((.ixor, 1, []), []), ((.iload_n 0, 1, []), []), ((.iconst 1, 1, []), []), ((.isub, 1, []), []), ((.iand, 1, []), []), ((.istore_n 0, 1, []), []), ((.iload_n 0, 1, []), []), ((.ifCond .gt 8, 3, [1040401]), []), ((.iload_n 0, 1, []), []), ((.bipush 32, 2, []), []), ((.iand, 1, []), []), ((.ireturn, 1, []), [])]
def b_J11_numberOfTrailingZeros_17 : List (ev_I × List (Nat × Nat)) := [((.iconst 1, 1, []), []), ((.istore_n 1, 1, []), []), ((.iload_n 0, 1, []), []), ((.ldc_w 264, 3, [0, 0, 65536]), []), ((.if_icmp .le 11, 3, [1040418]), []), ((.iinc 1 16, 3, []), []), ((.iload_n 0, 1, []), []), ((.bipush 16, 2, []), []), ((.iushr, 1, []), []), ((.istore_n 0, 1, []), []), ((.nop, 0, [0, 1040418]), [])]
def b_J11_numberOfTrailingZeros_34 : List (ev_I × List (Nat × Nat)) := [((.iload_n 0, 1, []), []), ((.sipush 256, 3, []), []), ((.if_icmp .le 11, 3, [1040433]), []), ((.iinc 1 8, 3, []), []), ((.iload_n 0, 1, []), []), ((.bipush 8, 2, []), []), ((.iushr, 1, []), []), ((.istore_n 0, 1, []), []), ((.nop, 0, [0, 1040433]), [])]
def b_J11_numberOfTrailingZeros_49 : List (ev_I × List (Nat × Nat)) := [((.iload_n 0, 1, []), []), ((.bipush 16, 2, []), []), ((.if_icmp .le 10, 3, [1040446]), []), ((.iinc 1 4, 3, []), []), ((.iload_n 0, 1, []), []), ((.iconst 4, 1, []), []), ((.iushr, 1, []), []), ((.istore_n 0, 1, []), []), ((.nop, 0, [0, 1040446]), [])]
def b_J11_numberOfTrailingZeros_62 : List (ev_I × List (Nat × Nat)) := [((.iload_n 0, 1, []), []), ((.iconst 4, 1, []), []), ((.if_icmp .le 10, 3, [1040458]), []), ((.iinc 1 2, 3, []), []), ((.iload_n 0, 1, []), []), ((.iconst 2, 1, []), []), ((.iushr, 1, []), []), ((.istore_n 0, 1, []), []), ((.nop, 0, [0, 1040458]), [])]
def b_J11_numberOfTrailingZeros_74 : List (ev_I × List (Nat × Nat)) := [((.iload_n 1, 1, []), []), ((.iload_n 0, 1, []), []), ((.iconst 1, 1, []), []), ((.iushr, 1, []), []), ((.iadd, 1, []), []), ((.ireturn, 1, []), [])]
def tb_J11_numberOfTrailingZeros : List (Nat × List (ev_I × List (Nat × Nat))) := [(0, b_J11_numberOfTrailingZeros_0), (17, b_J11_numberOfTrailingZeros_17), (34, b_J11_numberOfTrailingZeros_34), (49, b_J11_numberOfTrailingZeros_49), (62, b_J11_numberOfTrailingZeros_62), (74, b_J11_numberOfTrailingZeros_74)]
def b_J10_numberOfTrailingZeros_0 : List (ev_I × List (Nat × Nat)) := [((.lload_n 0, 1, []), []), ((.l2i, 1, []), []), ((.istore_n 2, 1, []), []), ((.iload_n 2, 1, []), []), ((.ifCond .ne 17, 3, [1044501]), []), ((.bipush 32, 2, []), []), ((.lload_n 0, 1, []), []), ((.bipush 32, 2, []), []), ((.lushr, 1, []), []), ((.l2i, 1, []), []), ((.invokestatic 311, 3, [254, 1]), []), ((.iadd, 1, []), []), ((.goto 7, 3, [1044505]), [])]
def b_J10_numberOfTrailingZeros_21 : List (ev_I × List (Nat × Nat)) := [((.iload_n 2, 1, []), []), ((.invokestatic 311, 3, [254, 1]), []), ((.nop, 0, [0, 1044505]), [])]
def b_J10_numberOfTrailingZeros_25 : List (ev_I × List (Nat × Nat)) := [((.nop, 0, [1, 0, 1, 2]), []), ((.ireturn, 1, []), [])]
def tb_J10_numberOfTrailingZeros : List (Nat × List (ev_I × List (Nat × Nat))) := [(0, b_J10_numberOfTrailingZeros_0), (21, b_J10_numberOfTrailingZeros_21), (25, b_J10_numberOfTrailingZeros_25)]
def b_X0_piece_0 : List (ev_I × List (Nat × Nat)) := [((.lload_n 0, 1, []), []), ((.invokestatic 460, 3, [255, 1]), []), ((.istore_n 2, 1, []), []), ((.lload_n 0, 1, []), []), ((.lload_n 0, 1, []), []), ((.lconst 1, 1, []), []), ((.lsub, 1, []), []), ((.land, 1, []), []), ((.lstore_n 3, 1, []), []), ((.lload_n 3, 1, []), []), ((.lconst 0, 1, []), []), ((.lcmp, 1, []), []), ((.ifCond .ne 14, 3, [1048604]), []), ((.new 312, 3, [7, 3]), []), ((.dup, 1, []), []), ((.iload_n 2, 1, []), []), ((.iconst 1, 1, []), []), ((.iconst 1, 1, []), []), ((.invokespecial 463, 3, [188, 4]), []), ((.areturn, 1, []), [])]
def b_X0_piece_28 : List (ev_I × List (Nat × Nat)) := [((.lload_n 3, 1, []), []), ((.invokestatic 460, 3, [255, 1]), []), ((.iload_n 2, 1, []), []), ((.isub, 1, []), []), ((.istore 5, 2, []), []), ((.iconst 0, 1, []), []), ((.istore 6, 2, []), []), ((.nop, 0, [0, 1048615]), [])]
def b_X0_piece_39 : List (ev_I × List (Nat × Nat)) := [((.nop, 0, [1, 3, 4]), []), ((.iload_n 2, 1, []), []), ((.iload 6, 2, []), []), ((.iload 5, 2, []), []), ((.imul, 1, []), []), ((.iadd, 1, []), []), ((.bipush 24, 2, []), []), ((.if_icmp .ge 25, 3, [1048649]), []), ((.lload_n 0, 1, []), []), ((.iload_n 2, 1, []), []), ((.iload 6, 2, []), []), ((.iload 5, 2, []), []), ((.imul, 1, []), []), ((.iadd, 1, []), []), ((.lshr, 1, []), []), ((.lconst 1, 1, []), []), ((.land, 1, []), []), ((.lconst 1, 1, []), []), ((.lcmp, 1, []), []), ((.ifCond .ne 9, 3, [1048649]), []), ((.iinc 6 1, 3, []), []), ((.goto (-31), 3, [1048615]), [])]
def b_X0_piece_73 : List (ev_I × List (Nat × Nat)) := [((.nop, 0, [1, 0, 1, 3, 4]), []), ((.new 312, 3, [7, 3]), []), ((.dup, 1, []), []), ((.iload_n 2, 1, []), []), ((.iload 5, 2, []), []), ((.iload 6, 2, []), []), ((.invokespecial 463, 3, [188, 4]), []), ((.areturn, 1, []), [])]
def tb_X0_piece : List (Nat × List (ev_I × List (Nat × Nat))) := [(0, b_X0_piece_0), (28, b_X0_piece_28), (39, b_X0_piece_39), (73, b_X0_piece_73)]
def b_X0_without_0 : List (ev_I × List (Nat × Nat)) := [((.lload_n 0, 1, []), []), ((.lstore_n 3, 1, []), []), ((.iconst 0, 1, []), []), ((.istore 5, 2, []), []), ((.nop, 0, [0, 1052677]), [])]
def b_X0_without_5 : List (ev_I × List (Nat × Nat)) := [((.nop, 0, [1, 0, 1]), []), ((.iload 5, 2, []), []), ((.aload_n 2, 1, []), []), ((.getfield 332, 3, [1, 0, 2, 7]), []), ((.if_icmp .ge 30, 3, [1052713]), []), ((.lload_n 3, 1, []), []), ((.lconst 1, 1, []), []), ((.aload_n 2, 1, []), []), ((.getfield 465, 3, [1, 0, 0, 7]), []), ((.iload 5, 2, []), []), ((.aload_n 2, 1, []), []), ((.getfield 468, 3, [1, 0, 1, 7]), []), ((.imul, 1, []), []), ((.iadd, 1, []), []), ((.lshl, 1, []), []), ((.ldc2_w 280, 3, [0, 1, 1]), []), ((.lxor, 1, []), []), ((.land, 1, []), []), ((.lstore_n 3, 1, []), []), ((.iinc 5 1, 3, []), []), ((.goto (-33), 3, [1052677]), [])]
def b_X0_without_41 : List (ev_I × List (Nat × Nat)) := [((.lload_n 3, 1, []), []), ((.lreturn, 1, []), [])]
def tb_X0_without : List (Nat × List (ev_I × List (Nat × Nat))) := [(0, b_X0_without_0), (5, b_X0_without_5), (41, b_X0_without_41)]
def b_X0_piecesOf_0 : List (ev_I × List (Nat × Nat)) := [((.iconst 0, 1, []), []), ((.istore_n 2, 1, []), []), ((.lload_n 0, 1, []), []), ((.lstore_n 3, 1, []), []), ((.nop, 0, [0, 1056772]), [])]
def b_X0_piecesOf_4 : List (ev_I × List (Nat × Nat)) := [((.nop, 0, [1, 0, 1]), []), ((.lload_n 3, 1, []), []), ((.lconst 0, 1, []), []), ((.lcmp, 1, []), []), ((.ifCond .eq 18, 3, [1056793]), []), ((.lload_n 3, 1, []), []), ((.lload_n 3, 1, []), []), ((.invokestatic 471, 3, [256, 1]), []), ((.invokestatic 475, 3, [257, 2]), []), ((.lstore_n 3, 1, []), []), ((.iinc 2 1, 3, []), []), ((.goto (-18), 3, [1056772]), [])]
def b_X0_piecesOf_25 : List (ev_I × List (Nat × Nat)) := [((.iload_n 2, 1, []), []), ((.ireturn, 1, []), [])]
def tb_X0_piecesOf : List (Nat × List (ev_I × List (Nat × Nat))) := [(0, b_X0_piecesOf_0), (4, b_X0_piecesOf_4), (25, b_X0_piecesOf_25)]
def b_X0_pieces_0 : List (ev_I × List (Nat × Nat)) := [((.aload_n 0, 1, []), []), ((.iload_n 1, 1, []), []), ((.iload_n 2, 1, []), []), ((.iload_n 3, 1, []), []), ((.invokevirtual 445, 3, [4, 1, 231]), []), ((.ifCond .ne 6, 3, [1060877]), []), ((.bipush (-2), 2, []), []), ((.ireturn, 1, []), [])]
def b_X0_pieces_13 : List (ev_I × List (Nat × Nat)) := [((.aload_n 0, 1, []), []), ((.invokevirtual 449, 3, [1, 1, 240]), []), ((.aload_n 0, 1, []), []), ((.iload_n 1, 1, []), []), ((.iload_n 2, 1, []), []), ((.iload_n 3, 1, []), []), ((.invokevirtual 452, 3, [4, 1, 241]), []), ((.invokestatic 479, 3, [258, 1]), []), ((.ireturn, 1, []), [])]
def tb_X0_pieces : List (Nat × List (ev_I × List (Nat × Nat))) := [(0, b_X0_pieces_0), (13, b_X0_pieces_13)]
def b_X3_nextBit_0 : List (ev_I × List (Nat × Nat)) := [((.iconst (-1), 1, []), []), ((.istore_n 2, 1, []), []), ((.bipush 23, 2, []), []), ((.istore_n 3, 1, []), []), ((.nop, 0, [0, 1064965]), [])]
def b_X3_nextBit_5 : List (ev_I × List (Nat × Nat)) := [((.iload_n 3, 1, []), []), ((.iload_n 1, 1, []), []), ((.if_icmp .lt 24, 3, [1064991]), []), ((.iload_n 0, 1, []), []), ((.iload_n 3, 1, []), []), ((.ishr, 1, []), []), ((.iconst 1, 1, []), []), ((.iand, 1, []), []), ((.iconst 1, 1, []), []), ((.if_icmp .ne 7, 3, [1064983]), []), ((.iload_n 3, 1, []), []), ((.goto 4, 3, [1064984]), [])]
def b_X3_nextBit_23 : List (ev_I × List (Nat × Nat)) := [((.iload_n 2, 1, []), []), ((.nop, 0, [0, 1064984]), [])]
def b_X3_nextBit_24 : List (ev_I × List (Nat × Nat)) := [((.nop, 0, [1, 2]), []), ((.istore_n 2, 1, []), []), ((.iinc 3 (-1), 3, []), []), ((.goto (-23), 3, [1064965]), [])]
def b_X3_nextBit_31 : List (ev_I × List (Nat × Nat)) := [((.iload_n 2, 1, []), []), ((.ireturn, 1, []), [])]
def tb_X3_nextBit : List (Nat × List (ev_I × List (Nat × Nat))) := [(0, b_X3_nextBit_0), (5, b_X3_nextBit_5), (23, b_X3_nextBit_23), (24, b_X3_nextBit_24), (31, b_X3_nextBit_31)]
def b_X3_without_0 : List (ev_I × List (Nat × Nat)) := [((.aload_n 0, 1, []), []), ((.iload_n 1, 1, []), []), ((.iconst 0, 1, []), []), ((.invokestatic 274, 3, [260, 2]), []), ((.putfield 277, 3, [0, 0, 26, 2]), []), ((.iload_n 1, 1, []), []), ((.aload_n 0, 1, []), []), ((.getfield 277, 3, [0, 0, 26, 2]), []), ((.iconst 1, 1, []), []), ((.iadd, 1, []), []), ((.invokestatic 274, 3, [260, 2]), []), ((.istore_n 2, 1, []), []), ((.aload_n 0, 1, []), []), ((.iload_n 2, 1, []), []), ((.iconst (-1), 1, []), []), ((.if_icmp .ne 7, 3, [1069086]), []), ((.iconst 1, 1, []), []), ((.goto 9, 3, [1069092]), [])]
def b_X3_without_30 : List (ev_I × List (Nat × Nat)) := [((.iload_n 2, 1, []), []), ((.aload_n 0, 1, []), []), ((.getfield 277, 3, [0, 0, 26, 2]), []), ((.isub, 1, []), []), ((.nop, 0, [0, 1069092]), [])]
def b_X3_without_36 : List (ev_I × List (Nat × Nat)) := [((.nop, 0, [1, 2, 3, 4]), []), ((.putfield 280, 3, [0, 0, 27, 2]), []), ((.aload_n 0, 1, []), []), ((.iconst 0, 1, []), []), ((.putfield 283, 3, [0, 0, 28, 2]), []), ((.iload_n 1, 1, []), []), ((.istore_n 3, 1, []), []), ((.aload_n 0, 1, []), []), ((.getfield 277, 3, [0, 0, 26, 2]), []), ((.istore 4, 2, []), []), ((.nop, 0, [0, 1069108]), [])]
def b_X3_without_52 : List (ev_I × List (Nat × Nat)) := [((.nop, 0, [1, 2]), []), ((.iload 4, 2, []), []), ((.bipush 24, 2, []), []), ((.if_icmp .ge 44, 3, [1069156]), []), ((.iload_n 1, 1, []), []), ((.iload 4, 2, []), []), ((.ishr, 1, []), []), ((.iconst 1, 1, []), []), ((.iand, 1, []), []), ((.iconst 1, 1, []), []), ((.if_icmp .ne 34, 3, [1069156]), []), ((.iload_n 3, 1, []), []), ((.iconst 1, 1, []), []), ((.iload 4, 2, []), []), ((.ishl, 1, []), []), ((.iconst (-1), 1, []), []), ((.ixor, 1, []), []), ((.iand, 1, []), []), ((.istore_n 3, 1, []), []), ((.aload_n 0, 1, []), []), ((.dup, 1, []), []), ((.getfield 283, 3, [0, 0, 28, 2]), []), ((.iconst 1, 1, []), []), ((.iadd, 1, []), []), ((.putfield 283, 3, [0, 0, 28, 2]), []), ((.iload 4, 2, []), []), ((.aload_n 0, 1, []), []), ((.getfield 280, 3, [0, 0, 27, 2]), []), ((.iadd, 1, []), []), ((.istore 4, 2, []), []), ((.goto (-45), 3, [1069108]), [])]
def b_X3_without_100 : List (ev_I × List (Nat × Nat)) := [((.nop, 0, [1, 0, 1, 2, 4]), []), ((.iload_n 3, 1, []), []), ((.ireturn, 1, []), [])]
def tb_X3_without : List (Nat × List (ev_I × List (Nat × Nat))) := [(0, b_X3_without_0), (30, b_X3_without_30), (36, b_X3_without_36), (52, b_X3_without_52), (100, b_X3_without_100)]
def b_X3_piecesOf_0 : List (ev_I × List (Nat × Nat)) := [((.iconst 0, 1, []), []), ((.istore_n 2, 1, []), []), ((.iload_n 1, 1, []), []), ((.istore_n 3, 1, []), []), ((.nop, 0, [0, 1073156]), [])]
def b_X3_piecesOf_4 : List (ev_I × List (Nat × Nat)) := [((.nop, 0, [1, 1]), []), ((.iload_n 3, 1, []), []), ((.ifCond .eq 15, 3, [1073172]), []), ((.aload_n 0, 1, []), []), ((.iload_n 3, 1, []), []), ((.invokevirtual 286, 3, [2, 2, 261]), []), ((.istore_n 3, 1, []), []), ((.iinc 2 1, 3, []), []), ((.goto (-13), 3, [1073156]), [])]
def b_X3_piecesOf_20 : List (ev_I × List (Nat × Nat)) := [((.iload_n 2, 1, []), []), ((.ireturn, 1, []), [])]
def tb_X3_piecesOf : List (Nat × List (ev_I × List (Nat × Nat))) := [(0, b_X3_piecesOf_0), (4, b_X3_piecesOf_4), (20, b_X3_piecesOf_20)]
def b_X3_pieces_0 : List (ev_I × List (Nat × Nat)) := [((.aload_n 0, 1, []), []), ((.iload_n 1, 1, []), []), ((.iload_n 2, 1, []), []), ((.iload_n 3, 1, []), []), ((.invokevirtual 265, 3, [4, 2, 244]), []), ((.ifCond .eq 17, 3, [1077272]), []), ((.aload_n 0, 1, []), []), ((.aload_n 0, 1, []), []), ((.iload_n 1, 1, []), []), ((.iload_n 2, 1, []), []), ((.iload_n 3, 1, []), []), ((.invokevirtual 268, 3, [4, 2, 251]), []), ((.invokevirtual 289, 3, [2, 2, 262]), []), ((.goto 5, 3, [1077274]), [])]
def b_X3_pieces_24 : List (ev_I × List (Nat × Nat)) := [((.bipush (-2), 2, []), []), ((.nop, 0, [0, 1077274]), [])]
def b_X3_pieces_26 : List (ev_I × List (Nat × Nat)) := [((.nop, 0, [1, 0, 1, 2, 3]), []), ((.ireturn, 1, []), [])]
def tb_X3_pieces : List (Nat × List (ev_I × List (Nat × Nat))) := [(0, b_X3_pieces_0), (24, b_X3_pieces_24), (26, b_X3_pieces_26)]
def b_X0_piece_2_0 : List (ev_I × List (Nat × Nat)) := [((.aload_n 0, 1, []), []), ((.iload_n 1, 1, []), []), ((.iload_n 2, 1, []), []), ((.iload_n 3, 1, []), []), ((.invokevirtual 445, 3, [4, 1, 231]), []), ((.ifCond .eq 21, 3, [1081372]), []), ((.iload 4, 2, []), []), ((.ifCond .lt 16, 3, [1081372]), []), ((.iload 5, 2, []), []), ((.i2l, 1, []), []), ((.lconst 0, 1, []), []), ((.ldc2_w 224, 3, [0, 0, 2]), []), ((.invokestatic 90, 3, [43, 3]), []), ((.ifCond .ne 6, 3, [1081375]), []), ((.nop, 0, [0, 1081372]), [])]
def b_X0_piece_2_28 : List (ev_I × List (Nat × Nat)) := [((.nop, 0, [1, 0, 1, 2, 3, 4, 5, 6, 7, 8]), []), ((.bipush (-2), 2, []), []), ((.ireturn, 1, []), [])]
def b_X0_piece_2_31 : List (ev_I × List (Nat × Nat)) := [((.aload_n 0, 1, []), []), ((.invokevirtual 449, 3, [1, 1, 240]), []), ((.aload_n 0, 1, []), []), ((.iload_n 1, 1, []), []), ((.iload_n 2, 1, []), []), ((.iload_n 3, 1, []), []), ((.invokevirtual 452, 3, [4, 1, 241]), []), ((.lstore 6, 2, []), []), ((.iconst 0, 1, []), []), ((.istore 8, 2, []), []), ((.nop, 0, [0, 1081391]), [])]
def b_X0_piece_2_47 : List (ev_I × List (Nat × Nat)) := [((.nop, 0, [1, 0, 1, 2, 3]), []), ((.iload 8, 2, []), []), ((.iload 4, 2, []), []), ((.if_icmp .ge 28, 3, [1081423]), []), ((.lload 6, 2, []), []), ((.lconst 0, 1, []), []), ((.lcmp, 1, []), []), ((.ifCond .eq 21, 3, [1081423]), []), ((.lload 6, 2, []), []), ((.lload 6, 2, []), []), ((.invokestatic 471, 3, [256, 1]), []), ((.invokestatic 475, 3, [257, 2]), []), ((.lstore 6, 2, []), []), ((.iinc 8 1, 3, []), []), ((.goto (-29), 3, [1081391]), [])]
def b_X0_piece_2_79 : List (ev_I × List (Nat × Nat)) := [((.nop, 0, [1, 0, 1, 2, 3, 4, 8]), []), ((.lload 6, 2, []), []), ((.lconst 0, 1, []), []), ((.lcmp, 1, []), []), ((.ifCond .ne 8, 3, [1081435]), []), ((.bipush (-2), 2, []), []), ((.goto 13, 3, [1081445]), [])]
def b_X0_piece_2_91 : List (ev_I × List (Nat × Nat)) := [((.lload 6, 2, []), []), ((.invokestatic 471, 3, [256, 1]), []), ((.iload 5, 2, []), []), ((.invokevirtual 327, 3, [2, 7, 191]), []), ((.nop, 0, [0, 1081445]), [])]
def b_X0_piece_2_101 : List (ev_I × List (Nat × Nat)) := [((.nop, 0, [1, 0, 1, 2, 3, 4, 5, 6, 7, 8]), []), ((.ireturn, 1, []), [])]
def tb_X0_piece_2 : List (Nat × List (ev_I × List (Nat × Nat))) := [(0, b_X0_piece_2_0), (28, b_X0_piece_2_28), (31, b_X0_piece_2_31), (47, b_X0_piece_2_47), (79, b_X0_piece_2_79), (91, b_X0_piece_2_91), (101, b_X0_piece_2_101)]
def b_X3_pieceOf_0 : List (ev_I × List (Nat × Nat)) := [((.iload_n 1, 1, []), []), ((.istore 4, 2, []), []), ((.iconst 0, 1, []), []), ((.istore 5, 2, []), []), ((.nop, 0, [0, 1085446]), [])]
def b_X3_pieceOf_6 : List (ev_I × List (Nat × Nat)) := [((.nop, 0, [1, 1]), []), ((.iload 5, 2, []), []), ((.iload_n 2, 1, []), []), ((.if_icmp .gt 56, 3, [1085505]), []), ((.iload 4, 2, []), []), ((.ifCond .eq 51, 3, [1085505]), []), ((.aload_n 0, 1, []), []), ((.iload 4, 2, []), []), ((.invokevirtual 286, 3, [2, 2, 261]), []), ((.istore 4, 2, []), []), ((.iload 5, 2, []), []), ((.iload_n 2, 1, []), []), ((.if_icmp .ne 31, 3, [1085499]), []), ((.iload_n 3, 1, []), []), ((.ifCond .ne 10, 3, [1085482]), []), ((.aload_n 0, 1, []), []), ((.getfield 277, 3, [0, 0, 26, 2]), []), ((.goto 19, 3, [1085498]), [])]
def b_X3_pieceOf_42 : List (ev_I × List (Nat × Nat)) := [((.iload_n 3, 1, []), []), ((.iconst 1, 1, []), []), ((.if_icmp .ne 10, 3, [1085494]), []), ((.aload_n 0, 1, []), []), ((.getfield 280, 3, [0, 0, 27, 2]), []), ((.goto 7, 3, [1085498]), [])]
def b_X3_pieceOf_54 : List (ev_I × List (Nat × Nat)) := [((.aload_n 0, 1, []), []), ((.getfield 283, 3, [0, 0, 28, 2]), []), ((.nop, 0, [0, 1085498]), [])]
def b_X3_pieceOf_58 : List (ev_I × List (Nat × Nat)) := [((.nop, 0, [1, 0, 1, 2, 3, 4, 5]), []), ((.ireturn, 1, []), [])]
def b_X3_pieceOf_59 : List (ev_I × List (Nat × Nat)) := [((.iinc 5 1, 3, []), []), ((.goto (-56), 3, [1085446]), [])]
def b_X3_pieceOf_65 : List (ev_I × List (Nat × Nat)) := [((.nop, 0, [1, 0, 1, 2, 3, 4, 5]), []), ((.bipush (-2), 2, []), []), ((.ireturn, 1, []), [])]
def tb_X3_pieceOf : List (Nat × List (ev_I × List (Nat × Nat))) := [(0, b_X3_pieceOf_0), (6, b_X3_pieceOf_6), (42, b_X3_pieceOf_42), (54, b_X3_pieceOf_54), (58, b_X3_pieceOf_58), (59, b_X3_pieceOf_59), (65, b_X3_pieceOf_65)]
def b_X3_piece_0 : List (ev_I × List (Nat × Nat)) := [((.aload_n 0, 1, []), []), ((.iload_n 1, 1, []), []), ((.iload_n 2, 1, []), []), ((.iload_n 3, 1, []), []), ((.invokevirtual 265, 3, [4, 2, 244]), []), ((.ifCond .eq 36, 3, [1089579]), []), ((.iload 4, 2, []), []), ((.ifCond .lt 31, 3, [1089579]), []), ((.iload 5, 2, []), []), ((.iconst 0, 1, []), []), ((.iconst 2, 1, []), []), ((.invokestatic 114, 3, [49, 3]), []), ((.ifCond .eq 21, 3, [1089579]), []), ((.aload_n 0, 1, []), []), ((.aload_n 0, 1, []), []), ((.iload_n 1, 1, []), []), ((.iload_n 2, 1, []), []), ((.iload_n 3, 1, []), []), ((.invokevirtual 268, 3, [4, 2, 251]), []), ((.iload 4, 2, []), []), ((.iload 5, 2, []), []), ((.invokevirtual 292, 3, [4, 2, 265]), []), ((.goto 5, 3, [1089581]), [])]
def b_X3_piece_43 : List (ev_I × List (Nat × Nat)) := [((.nop, 0, [1, 0, 1, 2, 3, 4, 5]), []), ((.bipush (-2), 2, []), []), ((.nop, 0, [0, 1089581]), [])]
def b_X3_piece_45 : List (ev_I × List (Nat × Nat)) := [((.nop, 0, [1, 0, 1, 2, 3, 4, 5]), []), ((.ireturn, 1, []), [])]
def tb_X3_piece : List (Nat × List (ev_I × List (Nat × Nat))) := [(0, b_X3_piece_0), (43, b_X3_piece_43), (45, b_X3_piece_45)]
def b_X0_isShared_0 : List (ev_I × List (Nat × Nat)) := [((.iconst 0, 1, []), []), ((.istore_n 2, 1, []), []), ((.nop, 0, [0, 1093634]), [])]
def b_X0_isShared_2 : List (ev_I × List (Nat × Nat)) := [((.nop, 0, [1, 3, 4, 5]), []), ((.iload_n 2, 1, []), []), ((.aload_n 0, 1, []), []), ((.getfield 173, 3, [0, 0, 4, 1]), []), ((.if_icmp .ge 76, 3, [1093715]), []), ((.iconst 0, 1, []), []), ((.istore_n 3, 1, []), []), ((.nop, 0, [0, 1093644]), [])]
def b_X0_isShared_12 : List (ev_I × List (Nat × Nat)) := [((.nop, 0, [1, 4, 5]), []), ((.iload_n 3, 1, []), []), ((.aload_n 0, 1, []), []), ((.getfield 173, 3, [0, 0, 4, 1]), []), ((.if_icmp .ge 60, 3, [1093709]), []), ((.aload_n 0, 1, []), []), ((.getfield 49, 3, [0, 4, 8, 1]), []), ((.iconst 0, 1, []), []), ((.iload_n 1, 1, []), []), ((.iload_n 3, 1, []), []), ((.invokestatic 412, 3, [233, 3]), []), ((.laload, 1, []), []), ((.aload_n 0, 1, []), []), ((.getfield 49, 3, [0, 4, 8, 1]), []), ((.iconst 1, 1, []), []), ((.iload_n 1, 1, []), []), ((.iload_n 3, 1, []), []), ((.invokestatic 412, 3, [233, 3]), []), ((.laload, 1, []), []), ((.lor, 1, []), []), ((.lstore 4, 2, []), []), ((.iload_n 2, 1, []), []), ((.iload_n 3, 1, []), []), ((.if_icmp .eq 24, 3, [1093703]), []), ((.aload_n 0, 1, []), []), ((.getfield 49, 3, [0, 4, 8, 1]), []), ((.iconst 1, 1, []), []), ((.iload_n 1, 1, []), []), ((.iload_n 2, 1, []), []), ((.invokestatic 412, 3, [233, 3]), []), ((.laload, 1, []), []), ((.lload 4, 2, []), []), ((.land, 1, []), []), ((.lconst 0, 1, []), []), ((.lcmp, 1, []), []), ((.ifCond .eq 5, 3, [1093703]), []), ((.iconst 0, 1, []), []), ((.ireturn, 1, [5]), [])]
def b_X0_isShared_71 : List (ev_I × List (Nat × Nat)) := [((.nop, 0, [1, 4, 5]), []), ((.iinc 3 1, 3, []), []), ((.goto (-62), 3, [1093644]), [])]
def b_X0_isShared_77 : List (ev_I × List (Nat × Nat)) := [((.iinc 2 1, 3, []), []), ((.goto (-78), 3, [1093634]), [])]
def b_X0_isShared_83 : List (ev_I × List (Nat × Nat)) := [((.iconst 1, 1, []), []), ((.ireturn, 1, [5]), [])]
def tb_X0_isShared : List (Nat × List (ev_I × List (Nat × Nat))) := [(0, b_X0_isShared_0), (2, b_X0_isShared_2), (12, b_X0_isShared_12), (71, b_X0_isShared_71), (77, b_X0_isShared_77), (83, b_X0_isShared_83)]
def b_X6_isOf_0 : List (ev_I × List (Nat × Nat)) := [((.iconst 0, 1, []), []), ((.istore_n 2, 1, []), []), ((.nop, 0, [0, 1097730]), [])]
def b_X6_isOf_2 : List (ev_I × List (Nat × Nat)) := [((.iload_n 2, 1, []), []), ((.iconst 2, 1, []), []), ((.if_icmp .gt 31, 3, [1097763]), []), ((.aload_n 0, 1, []), []), ((.iload_n 2, 1, []), []), ((.invokevirtual 71, 3, [2, 5, 209]), []), ((.ifCond .eq 17, 3, [1097757]), []), ((.aload_n 0, 1, []), []), ((.iload_n 2, 1, []), []), ((.invokevirtual 74, 3, [2, 5, 134]), []), ((.getfield 78, 3, [1, 0, 0, 6]), []), ((.iload_n 1, 1, []), []), ((.if_icmp .ne 5, 3, [1097757]), []), ((.iconst 1, 1, []), []), ((.ireturn, 1, [5]), [])]
def b_X6_isOf_29 : List (ev_I × List (Nat × Nat)) := [((.iinc 2 1, 3, []), []), ((.goto (-30), 3, [1097730]), [])]
def b_X6_isOf_35 : List (ev_I × List (Nat × Nat)) := [((.iconst 0, 1, []), []), ((.ireturn, 1, [5]), [])]
def tb_X6_isOf : List (Nat × List (ev_I × List (Nat × Nat))) := [(0, b_X6_isOf_0), (2, b_X6_isOf_2), (29, b_X6_isOf_29), (35, b_X6_isOf_35)]
def b_X0_isGathered_0 : List (ev_I × List (Nat × Nat)) := [((.iconst 0, 1, []), []), ((.istore_n 3, 1, []), []), ((.iconst 0, 1, []), []), ((.istore 4, 2, []), []), ((.nop, 0, [0, 1101829]), [])]
def b_X0_isGathered_5 : List (ev_I × List (Nat × Nat)) := [((.nop, 0, [1, 5, 6]), []), ((.iload 4, 2, []), []), ((.aload_n 0, 1, []), []), ((.getfield 34, 3, [0, 4, 3, 1]), []), ((.invokevirtual 208, 3, [1, 18, 117]), []), ((.if_icmp .ge 80, 3, [1101918]), []), ((.aload_n 0, 1, []), []), ((.getfield 34, 3, [0, 4, 3, 1]), []), ((.iload 4, 2, []), []), ((.invokevirtual 230, 3, [2, 18, 133]), []), ((.checkcast 209, 3, [1, 5]), []), ((.astore 5, 2, []), []), ((.aload 5, 2, []), []), ((.iload_n 1, 1, []), []), ((.invokevirtual 482, 3, [2, 5, 268]), []), ((.ifCond .ne 6, 3, [1101867]), []), ((.goto 48, 3, [1101912]), [])]
def b_X0_isGathered_43 : List (ev_I × List (Nat × Nat)) := [((.aload 5, 2, []), []), ((.iconst 0, 1, []), []), ((.invokevirtual 233, 3, [2, 5, 134]), []), ((.getfield 237, 3, [1, 0, 0, 6]), []), ((.iload_n 1, 1, []), []), ((.if_icmp .ne 12, 3, [1101889]), []), ((.aload 5, 2, []), []), ((.iload_n 2, 1, []), []), ((.invokevirtual 485, 3, [2, 5, 161]), []), ((.goto 4, 3, [1101890]), [])]
def b_X0_isGathered_65 : List (ev_I × List (Nat × Nat)) := [((.iconst 0, 1, []), []), ((.nop, 0, [0, 1101890]), [])]
def b_X0_isGathered_66 : List (ev_I × List (Nat × Nat)) := [((.nop, 0, [1, 5, 6]), []), ((.istore 6, 2, []), []), ((.iload 6, 2, []), []), ((.ifCond .eq 13, 3, [1101907]), []), ((.iload_n 3, 1, []), []), ((.ifCond .eq 11, 3, [1101909]), []), ((.iload 6, 2, []), []), ((.iload_n 3, 1, []), []), ((.if_icmp .eq 5, 3, [1101909]), []), ((.nop, 0, [0, 1101907]), [])]
def b_X0_isGathered_83 : List (ev_I × List (Nat × Nat)) := [((.nop, 0, [1, 0, 1, 2, 3, 4, 5, 6]), []), ((.iconst 0, 1, []), []), ((.ireturn, 1, [5]), [])]
def b_X0_isGathered_85 : List (ev_I × List (Nat × Nat)) := [((.nop, 0, [1, 3, 5]), []), ((.iload 6, 2, []), []), ((.istore_n 3, 1, []), []), ((.nop, 0, [0, 1101912]), [])]
def b_X0_isGathered_88 : List (ev_I × List (Nat × Nat)) := [((.nop, 0, [1, 5, 6]), []), ((.iinc 4 1, 3, []), []), ((.goto (-86), 3, [1101829]), [])]
def b_X0_isGathered_94 : List (ev_I × List (Nat × Nat)) := [((.iload_n 3, 1, []), []), ((.ifCond .eq 7, 3, [1101926]), []), ((.iconst 1, 1, []), []), ((.goto 4, 3, [1101927]), [])]
def b_X0_isGathered_102 : List (ev_I × List (Nat × Nat)) := [((.iconst 0, 1, []), []), ((.nop, 0, [0, 1101927]), [])]
def b_X0_isGathered_103 : List (ev_I × List (Nat × Nat)) := [((.nop, 0, [1, 0, 1, 2, 3, 4, 5, 6]), []), ((.ireturn, 1, [5]), [])]
def tb_X0_isGathered : List (Nat × List (ev_I × List (Nat × Nat))) := [(0, b_X0_isGathered_0), (5, b_X0_isGathered_5), (43, b_X0_isGathered_43), (65, b_X0_isGathered_65), (66, b_X0_isGathered_66), (83, b_X0_isGathered_83), (85, b_X0_isGathered_85), (88, b_X0_isGathered_88), (94, b_X0_isGathered_94), (102, b_X0_isGathered_102), (103, b_X0_isGathered_103)]
def b_X0_waits_0 : List (ev_I × List (Nat × Nat)) := [((.lconst 0, 1, []), []), ((.lstore_n 2, 1, []), []), ((.iconst 0, 1, []), []), ((.istore 4, 2, []), []), ((.nop, 0, [0, 1105925]), [])]
def b_X0_waits_5 : List (ev_I × List (Nat × Nat)) := [((.iload 4, 2, []), []), ((.aload_n 0, 1, []), []), ((.getfield 173, 3, [0, 0, 4, 1]), []), ((.if_icmp .ge 46, 3, [1105977]), []), ((.lload_n 2, 1, []), []), ((.aload_n 0, 1, []), []), ((.getfield 49, 3, [0, 4, 8, 1]), []), ((.iconst 3, 1, []), []), ((.iload_n 1, 1, []), []), ((.iload 4, 2, []), []), ((.invokestatic 412, 3, [233, 3]), []), ((.laload, 1, []), []), ((.land, 1, []), []), ((.lconst 0, 1, []), []), ((.lcmp, 1, []), []), ((.ifCond .eq 6, 3, [1105956]), []), ((.iload 4, 2, []), []), ((.ireturn, 1, []), [])]
def b_X0_waits_36 : List (ev_I × List (Nat × Nat)) := [((.lload_n 2, 1, []), []), ((.aload_n 0, 1, []), []), ((.getfield 49, 3, [0, 4, 8, 1]), []), ((.iconst 1, 1, []), []), ((.iload_n 1, 1, []), []), ((.iload 4, 2, []), []), ((.invokestatic 412, 3, [233, 3]), []), ((.laload, 1, []), []), ((.lor, 1, []), []), ((.lstore_n 2, 1, []), []), ((.iinc 4 1, 3, []), []), ((.goto (-49), 3, [1105925]), [])]
def b_X0_waits_57 : List (ev_I × List (Nat × Nat)) := [((.iconst (-1), 1, []), []), ((.ireturn, 1, []), [])]
def tb_X0_waits : List (Nat × List (ev_I × List (Nat × Nat))) := [(0, b_X0_waits_0), (5, b_X0_waits_5), (36, b_X0_waits_36), (57, b_X0_waits_57)]
def b_X0_verdictBy_0 : List (ev_I × List (Nat × Nat)) := [((.aload_n 0, 1, []), []), ((.iconst 1, 1, []), []), ((.iload_n 1, 1, []), []), ((.iconst (-1), 1, []), []), ((.invokevirtual 452, 3, [4, 1, 241]), []), ((.lconst 0, 1, []), []), ((.lcmp, 1, []), []), ((.ifCond .ne 5, 3, [1110030]), []), ((.iconst 0, 1, []), []), ((.ireturn, 1, []), [])]
def b_X0_verdictBy_14 : List (ev_I × List (Nat × Nat)) := [((.aload_n 0, 1, []), []), ((.iload_n 1, 1, []), []), ((.invokevirtual 488, 3, [2, 1, 267]), []), ((.ifCond .eq 5, 3, [1110040]), []), ((.iconst 1, 1, []), []), ((.ireturn, 1, []), [])]
def b_X0_verdictBy_24 : List (ev_I × List (Nat × Nat)) := [((.aload_n 0, 1, []), []), ((.iload_n 1, 1, []), []), ((.iload_n 2, 1, []), []), ((.invokevirtual 491, 3, [3, 1, 269]), []), ((.ifCond .eq 5, 3, [1110051]), []), ((.iconst 2, 1, []), []), ((.ireturn, 1, []), [])]
def b_X0_verdictBy_35 : List (ev_I × List (Nat × Nat)) := [((.aload_n 0, 1, []), []), ((.iload_n 1, 1, []), []), ((.invokevirtual 494, 3, [2, 1, 270]), []), ((.iconst (-1), 1, []), []), ((.if_icmp .ne 7, 3, [1110064]), []), ((.iconst 3, 1, []), []), ((.goto 4, 3, [1110065]), [])]
def b_X0_verdictBy_48 : List (ev_I × List (Nat × Nat)) := [((.iconst 4, 1, []), []), ((.nop, 0, [0, 1110065]), [])]
def b_X0_verdictBy_49 : List (ev_I × List (Nat × Nat)) := [((.nop, 0, [1, 0, 1, 2]), []), ((.ireturn, 1, []), [])]
def tb_X0_verdictBy : List (Nat × List (ev_I × List (Nat × Nat))) := [(0, b_X0_verdictBy_0), (14, b_X0_verdictBy_14), (24, b_X0_verdictBy_24), (35, b_X0_verdictBy_35), (48, b_X0_verdictBy_48), (49, b_X0_verdictBy_49)]
def b_X0_verdictOf_0 : List (ev_I × List (Nat × Nat)) := [((.aload_n 0, 1, []), []), ((.iload_n 1, 1, []), []), ((.invokevirtual 391, 3, [2, 1, 159]), []), ((.astore_n 2, 1, []), []), ((.aload_n 2, 1, []), []), ((.ifnonnull 7, 3, [1114126]), []), ((.iconst 0, 1, []), []), ((.goto 12, 3, [1114135]), [])]
def b_X0_verdictOf_14 : List (ev_I × List (Nat × Nat)) := [((.aload_n 0, 1, []), []), ((.iload_n 1, 1, []), []), ((.aload_n 2, 1, []), []), ((.getfield 496, 3, [1, 0, 1, 4]), []), ((.invokevirtual 499, 3, [3, 1, 271]), []), ((.nop, 0, [0, 1114135]), [])]
def b_X0_verdictOf_23 : List (ev_I × List (Nat × Nat)) := [((.nop, 0, [1, 0, 1, 2]), []), ((.ireturn, 1, []), [])]
def tb_X0_verdictOf : List (Nat × List (ev_I × List (Nat × Nat))) := [(0, b_X0_verdictOf_0), (14, b_X0_verdictOf_14), (23, b_X0_verdictOf_23)]
def b_X0_verdict_0 : List (ev_I × List (Nat × Nat)) := [((.iload_n 1, 1, []), []), ((.invokestatic 106, 3, [44, 1]), []), ((.ifCond .ne 6, 3, [1118218]), []), ((.bipush (-2), 2, []), []), ((.ireturn, 1, []), [])]
def b_X0_verdict_10 : List (ev_I × List (Nat × Nat)) := [((.aload_n 0, 1, []), []), ((.invokevirtual 449, 3, [1, 1, 240]), []), ((.aload_n 0, 1, []), []), ((.iload_n 1, 1, []), []), ((.invokevirtual 502, 3, [2, 1, 272]), []), ((.ireturn, 1, []), [])]
def tb_X0_verdict : List (Nat × List (ev_I × List (Nat × Nat))) := [(0, b_X0_verdict_0), (10, b_X0_verdict_10)]
def b_X3_isWritten_0 : List (ev_I × List (Nat × Nat)) := [((.iconst 0, 1, []), []), ((.istore_n 2, 1, []), []), ((.iconst 0, 1, []), []), ((.istore_n 3, 1, []), []), ((.nop, 0, [0, 1122308]), [])]
def b_X3_isWritten_4 : List (ev_I × List (Nat × Nat)) := [((.iload_n 3, 1, []), []), ((.aload_n 0, 1, []), []), ((.getfield 154, 3, [0, 0, 6, 2]), []), ((.if_icmp .ge 19, 3, [1122332]), []), ((.iload_n 2, 1, []), []), ((.aload_n 0, 1, []), []), ((.iconst 1, 1, []), []), ((.iload_n 1, 1, []), []), ((.iload_n 3, 1, []), []), ((.invokevirtual 262, 3, [4, 2, 250]), []), ((.ior, 1, []), []), ((.istore_n 2, 1, []), []), ((.iinc 3 1, 3, []), []), ((.goto (-21), 3, [1122308]), [])]
def b_X3_isWritten_28 : List (ev_I × List (Nat × Nat)) := [((.iload_n 2, 1, []), []), ((.ifCond .eq 7, 3, [1122340]), []), ((.iconst 1, 1, []), []), ((.goto 4, 3, [1122341]), [])]
def b_X3_isWritten_36 : List (ev_I × List (Nat × Nat)) := [((.iconst 0, 1, []), []), ((.nop, 0, [0, 1122341]), [])]
def b_X3_isWritten_37 : List (ev_I × List (Nat × Nat)) := [((.nop, 0, [1, 0, 1, 2, 3]), []), ((.ireturn, 1, [5]), [])]
def tb_X3_isWritten : List (Nat × List (ev_I × List (Nat × Nat))) := [(0, b_X3_isWritten_0), (4, b_X3_isWritten_4), (28, b_X3_isWritten_28), (36, b_X3_isWritten_36), (37, b_X3_isWritten_37)]
def b_X3_isShared_0 : List (ev_I × List (Nat × Nat)) := [((.iconst 1, 1, []), []), ((.istore_n 2, 1, []), []), ((.iconst 0, 1, []), []), ((.istore_n 3, 1, []), []), ((.nop, 0, [0, 1126404]), [])]
def b_X3_isShared_4 : List (ev_I × List (Nat × Nat)) := [((.nop, 0, [1, 4, 5]), []), ((.iload_n 3, 1, []), []), ((.aload_n 0, 1, []), []), ((.getfield 154, 3, [0, 0, 6, 2]), []), ((.if_icmp .ge 75, 3, [1126484]), []), ((.iconst 0, 1, []), []), ((.istore 4, 2, []), []), ((.nop, 0, [0, 1126415]), [])]
def b_X3_isShared_15 : List (ev_I × List (Nat × Nat)) := [((.nop, 0, [1, 5]), []), ((.iload 4, 2, []), []), ((.aload_n 0, 1, []), []), ((.getfield 154, 3, [0, 0, 6, 2]), []), ((.if_icmp .ge 57, 3, [1126478]), []), ((.aload_n 0, 1, []), []), ((.iconst 0, 1, []), []), ((.iload_n 1, 1, []), []), ((.iload 4, 2, []), []), ((.invokevirtual 262, 3, [4, 2, 250]), []), ((.aload_n 0, 1, []), []), ((.iconst 1, 1, []), []), ((.iload_n 1, 1, []), []), ((.iload 4, 2, []), []), ((.invokevirtual 262, 3, [4, 2, 250]), []), ((.ior, 1, []), []), ((.istore 5, 2, []), []), ((.iload_n 2, 1, []), []), ((.ifCond .eq 26, 3, [1126470]), []), ((.iload_n 3, 1, []), []), ((.iload 4, 2, []), []), ((.if_icmp .eq 16, 3, [1126466]), []), ((.aload_n 0, 1, []), []), ((.iconst 1, 1, []), []), ((.iload_n 1, 1, []), []), ((.iload_n 3, 1, []), []), ((.invokevirtual 262, 3, [4, 2, 250]), []), ((.iload 5, 2, []), []), ((.iand, 1, []), []), ((.ifCond .ne 7, 3, [1126470]), []), ((.nop, 0, [0, 1126466]), [])]
def b_X3_isShared_66 : List (ev_I × List (Nat × Nat)) := [((.nop, 0, [1, 2, 5]), []), ((.iconst 1, 1, []), []), ((.goto 4, 3, [1126471]), [])]
def b_X3_isShared_70 : List (ev_I × List (Nat × Nat)) := [((.nop, 0, [1, 2, 5]), []), ((.iconst 0, 1, []), []), ((.nop, 0, [0, 1126471]), [])]
def b_X3_isShared_71 : List (ev_I × List (Nat × Nat)) := [((.nop, 0, [1, 2, 5]), []), ((.istore_n 2, 1, []), []), ((.iinc 4 1, 3, []), []), ((.goto (-60), 3, [1126415]), [])]
def b_X3_isShared_78 : List (ev_I × List (Nat × Nat)) := [((.iinc 3 1, 3, []), []), ((.goto (-77), 3, [1126404]), [])]
def b_X3_isShared_84 : List (ev_I × List (Nat × Nat)) := [((.iload_n 2, 1, []), []), ((.ireturn, 1, [5]), [])]
def tb_X3_isShared : List (Nat × List (ev_I × List (Nat × Nat))) := [(0, b_X3_isShared_0), (4, b_X3_isShared_4), (15, b_X3_isShared_15), (66, b_X3_isShared_66), (70, b_X3_isShared_70), (71, b_X3_isShared_71), (78, b_X3_isShared_78), (84, b_X3_isShared_84)]
def b_X3_isAbout_0 : List (ev_I × List (Nat × Nat)) := [((.aload_n 0, 1, []), []), ((.getfield 41, 3, [0, 4, 13, 2]), []), ((.iconst 3, 1, []), []), ((.iload_n 1, 1, []), []), ((.imul, 1, []), []), ((.iaload, 1, []), []), ((.iload_n 2, 1, []), []), ((.if_icmp .eq 42, 3, [1130547]), []), ((.aload_n 0, 1, []), []), ((.getfield 41, 3, [0, 4, 13, 2]), []), ((.iconst 3, 1, []), []), ((.iload_n 1, 1, []), []), ((.imul, 1, []), []), ((.iconst 1, 1, []), []), ((.iadd, 1, []), []), ((.iaload, 1, []), []), ((.iload_n 2, 1, []), []), ((.if_icmp .eq 28, 3, [1130547]), []), ((.aload_n 0, 1, []), []), ((.getfield 41, 3, [0, 4, 13, 2]), []), ((.iconst 3, 1, []), []), ((.iload_n 1, 1, []), []), ((.imul, 1, []), []), ((.iconst 2, 1, []), []), ((.iadd, 1, []), []), ((.iaload, 1, []), []), ((.iload_n 2, 1, []), []), ((.if_icmp .ne 18, 3, [1130551]), []), ((.aload_n 0, 1, []), []), ((.getfield 26, 3, [0, 4, 8, 2]), []), ((.iload_n 1, 1, []), []), ((.iaload, 1, []), []), ((.bipush 9, 2, []), []), ((.if_icmp .eq 7, 3, [1130551]), []), ((.nop, 0, [0, 1130547]), [])]
def b_X3_isAbout_51 : List (ev_I × List (Nat × Nat)) := [((.nop, 0, [1, 0, 1, 2]), []), ((.iconst 1, 1, []), []), ((.goto 4, 3, [1130552]), [])]
def b_X3_isAbout_55 : List (ev_I × List (Nat × Nat)) := [((.nop, 0, [1, 0, 1, 2]), []), ((.iconst 0, 1, []), []), ((.nop, 0, [0, 1130552]), [])]
def b_X3_isAbout_56 : List (ev_I × List (Nat × Nat)) := [((.nop, 0, [1, 0, 1, 2]), []), ((.ireturn, 1, [5]), [])]
def tb_X3_isAbout : List (Nat × List (ev_I × List (Nat × Nat))) := [(0, b_X3_isAbout_0), (51, b_X3_isAbout_51), (55, b_X3_isAbout_55), (56, b_X3_isAbout_56)]
def b_X3_isGathered_0 : List (ev_I × List (Nat × Nat)) := [((.iconst 0, 1, []), []), ((.istore 4, 2, []), []), ((.iconst 1, 1, []), []), ((.istore 5, 2, []), []), ((.iconst 0, 1, []), []), ((.istore 6, 2, []), []), ((.nop, 0, [0, 1134601]), [])]
def b_X3_isGathered_9 : List (ev_I × List (Nat × Nat)) := [((.nop, 0, [1, 7]), []), ((.iload 6, 2, []), []), ((.aload_n 0, 1, []), []), ((.getfield 171, 3, [0, 0, 7, 2]), []), ((.if_icmp .ge 75, 3, [1134682]), []), ((.aload_n 0, 1, []), []), ((.iload 6, 2, []), []), ((.iload_n 1, 1, []), []), ((.invokevirtual 295, 3, [3, 2, 276]), []), ((.ifCond .eq 59, 3, [1134676]), []), ((.aload_n 0, 1, []), []), ((.iload 6, 2, []), []), ((.iload_n 2, 1, []), []), ((.iload_n 3, 1, []), []), ((.invokevirtual 188, 3, [4, 2, 173]), []), ((.istore 7, 2, []), []), ((.iload 5, 2, []), []), ((.ifCond .eq 37, 3, [1134669]), []), ((.aload_n 0, 1, []), []), ((.getfield 41, 3, [0, 4, 13, 2]), []), ((.iconst 3, 1, []), []), ((.iload 6, 2, []), []), ((.imul, 1, []), []), ((.iaload, 1, []), []), ((.iload_n 1, 1, []), []), ((.if_icmp .ne 24, 3, [1134669]), []), ((.iload 7, 2, []), []), ((.ifCond .le 19, 3, [1134669]), []), ((.iload 4, 2, []), []), ((.ifCond .eq 10, 3, [1134665]), []), ((.iload 4, 2, []), []), ((.iload 7, 2, []), []), ((.if_icmp .ne 7, 3, [1134669]), []), ((.nop, 0, [0, 1134665]), [])]
def b_X3_isGathered_73 : List (ev_I × List (Nat × Nat)) := [((.nop, 0, [1, 4, 5]), []), ((.iconst 1, 1, []), []), ((.goto 4, 3, [1134670]), [])]
def b_X3_isGathered_77 : List (ev_I × List (Nat × Nat)) := [((.nop, 0, [1, 4, 5]), []), ((.iconst 0, 1, []), []), ((.nop, 0, [0, 1134670]), [])]
def b_X3_isGathered_78 : List (ev_I × List (Nat × Nat)) := [((.nop, 0, [1, 4, 5]), []), ((.istore 5, 2, []), []), ((.iload 7, 2, []), []), ((.istore 4, 2, []), []), ((.nop, 0, [0, 1134676]), [])]
def b_X3_isGathered_84 : List (ev_I × List (Nat × Nat)) := [((.nop, 0, [1, 7]), []), ((.iinc 6 1, 3, []), []), ((.goto (-78), 3, [1134601]), [])]
def b_X3_isGathered_90 : List (ev_I × List (Nat × Nat)) := [((.iload 5, 2, []), []), ((.ifCond .eq 12, 3, [1134696]), []), ((.iload 4, 2, []), []), ((.ifCond .le 7, 3, [1134696]), []), ((.iconst 1, 1, []), []), ((.goto 4, 3, [1134697]), [])]
def b_X3_isGathered_104 : List (ev_I × List (Nat × Nat)) := [((.nop, 0, [1, 0, 1, 2, 3, 4, 5, 6, 7]), []), ((.iconst 0, 1, []), []), ((.nop, 0, [0, 1134697]), [])]
def b_X3_isGathered_105 : List (ev_I × List (Nat × Nat)) := [((.nop, 0, [1, 0, 1, 2, 3, 4, 5, 6, 7]), []), ((.ireturn, 1, [5]), [])]
def tb_X3_isGathered : List (Nat × List (ev_I × List (Nat × Nat))) := [(0, b_X3_isGathered_0), (9, b_X3_isGathered_9), (73, b_X3_isGathered_73), (77, b_X3_isGathered_77), (78, b_X3_isGathered_78), (84, b_X3_isGathered_84), (90, b_X3_isGathered_90), (104, b_X3_isGathered_104), (105, b_X3_isGathered_105)]
def b_X3_isCopied_0 : List (ev_I × List (Nat × Nat)) := [((.iconst 1, 1, []), []), ((.istore_n 2, 1, []), []), ((.iconst 0, 1, []), []), ((.istore_n 3, 1, []), []), ((.iconst 0, 1, []), []), ((.istore 4, 2, []), []), ((.nop, 0, [0, 1138695]), [])]
def b_X3_isCopied_7 : List (ev_I × List (Nat × Nat)) := [((.iload 4, 2, []), []), ((.aload_n 0, 1, []), []), ((.getfield 154, 3, [0, 0, 6, 2]), []), ((.if_icmp .ge 43, 3, [1138744]), []), ((.iload_n 2, 1, []), []), ((.ifCond .eq 20, 3, [1138725]), []), ((.aload_n 0, 1, []), []), ((.iconst 3, 1, []), []), ((.iload_n 1, 1, []), []), ((.iload 4, 2, []), []), ((.invokevirtual 262, 3, [4, 2, 250]), []), ((.iload_n 3, 1, []), []), ((.iand, 1, []), []), ((.ifCond .ne 7, 3, [1138725]), []), ((.iconst 1, 1, []), []), ((.goto 4, 3, [1138726]), [])]
def b_X3_isCopied_37 : List (ev_I × List (Nat × Nat)) := [((.nop, 0, [1, 2]), []), ((.iconst 0, 1, []), []), ((.nop, 0, [0, 1138726]), [])]
def b_X3_isCopied_38 : List (ev_I × List (Nat × Nat)) := [((.nop, 0, [1, 2]), []), ((.istore_n 2, 1, []), []), ((.iload_n 3, 1, []), []), ((.aload_n 0, 1, []), []), ((.iconst 1, 1, []), []), ((.iload_n 1, 1, []), []), ((.iload 4, 2, []), []), ((.invokevirtual 262, 3, [4, 2, 250]), []), ((.ior, 1, []), []), ((.istore_n 3, 1, []), []), ((.iinc 4 1, 3, []), []), ((.goto (-46), 3, [1138695]), [])]
def b_X3_isCopied_56 : List (ev_I × List (Nat × Nat)) := [((.iload_n 2, 1, []), []), ((.ireturn, 1, [5]), [])]
def tb_X3_isCopied : List (Nat × List (ev_I × List (Nat × Nat))) := [(0, b_X3_isCopied_0), (7, b_X3_isCopied_7), (37, b_X3_isCopied_37), (38, b_X3_isCopied_38), (56, b_X3_isCopied_56)]
def b_X3_verdictAs_0 : List (ev_I × List (Nat × Nat)) := [((.aload_n 0, 1, []), []), ((.invokevirtual 259, 3, [1, 2, 249]), []), ((.aload_n 0, 1, []), []), ((.iload_n 1, 1, []), []), ((.invokevirtual 298, 3, [2, 2, 274]), []), ((.ifCond .ne 7, 3, [1142800]), []), ((.iconst 0, 1, []), []), ((.goto 42, 3, [1142839]), [])]
def b_X3_verdictAs_16 : List (ev_I × List (Nat × Nat)) := [((.aload_n 0, 1, []), []), ((.iload_n 1, 1, []), []), ((.invokevirtual 301, 3, [2, 2, 275]), []), ((.ifCond .eq 7, 3, [1142812]), []), ((.iconst 1, 1, []), []), ((.goto 30, 3, [1142839]), [])]
def b_X3_verdictAs_28 : List (ev_I × List (Nat × Nat)) := [((.aload_n 0, 1, []), []), ((.iload_n 1, 1, []), []), ((.iload_n 2, 1, []), []), ((.iload_n 3, 1, []), []), ((.invokevirtual 304, 3, [4, 2, 277]), []), ((.ifCond .eq 7, 3, [1142826]), []), ((.iconst 2, 1, []), []), ((.goto 16, 3, [1142839]), [])]
def b_X3_verdictAs_42 : List (ev_I × List (Nat × Nat)) := [((.aload_n 0, 1, []), []), ((.iload_n 1, 1, []), []), ((.invokevirtual 307, 3, [2, 2, 278]), []), ((.ifCond .eq 7, 3, [1142838]), []), ((.iconst 3, 1, []), []), ((.goto 4, 3, [1142839]), [])]
def b_X3_verdictAs_54 : List (ev_I × List (Nat × Nat)) := [((.iconst 4, 1, []), []), ((.nop, 0, [0, 1142839]), [])]
def b_X3_verdictAs_55 : List (ev_I × List (Nat × Nat)) := [((.nop, 0, [1, 0, 1, 2, 3]), []), ((.ireturn, 1, []), [])]
def tb_X3_verdictAs : List (Nat × List (ev_I × List (Nat × Nat))) := [(0, b_X3_verdictAs_0), (16, b_X3_verdictAs_16), (28, b_X3_verdictAs_28), (42, b_X3_verdictAs_42), (54, b_X3_verdictAs_54), (55, b_X3_verdictAs_55)]
def b_X3_verdictOf_0 : List (ev_I × List (Nat × Nat)) := [((.aload_n 0, 1, []), []), ((.iload_n 1, 1, []), []), ((.iconst (-1), 1, []), []), ((.iconst 0, 1, []), []), ((.invokevirtual 310, 3, [4, 2, 279]), []), ((.ireturn, 1, []), [])]
def tb_X3_verdictOf : List (Nat × List (ev_I × List (Nat × Nat))) := [(0, b_X3_verdictOf_0)]
def b_X3_verdict_0 : List (ev_I × List (Nat × Nat)) := [((.iload_n 1, 1, []), []), ((.invokestatic 122, 3, [50, 1]), []), ((.ifCond .eq 11, 3, [1150991]), []), ((.aload_n 0, 1, []), []), ((.iload_n 1, 1, []), []), ((.invokevirtual 313, 3, [2, 2, 280]), []), ((.goto 5, 3, [1150993]), [])]
def b_X3_verdict_15 : List (ev_I × List (Nat × Nat)) := [((.bipush (-2), 2, []), []), ((.nop, 0, [0, 1150993]), [])]
def b_X3_verdict_17 : List (ev_I × List (Nat × Nat)) := [((.nop, 0, [1, 0, 1]), []), ((.ireturn, 1, []), [])]
def tb_X3_verdict : List (Nat × List (ev_I × List (Nat × Nat))) := [(0, b_X3_verdict_0), (15, b_X3_verdict_15), (17, b_X3_verdict_17)]
def b_X0_would_0 : List (ev_I × List (Nat × Nat)) := [((.iload_n 1, 1, []), []), ((.invokestatic 106, 3, [44, 1]), []), ((.ifCond .eq 15, 3, [1155091]), []), ((.iload_n 2, 1, []), []), ((.i2l, 1, []), []), ((.lconst 0, 1, []), []), ((.ldc2_w 301, 3, [0, 0, 3]), []), ((.invokestatic 90, 3, [43, 3]), []), ((.ifCond .ne 6, 3, [1155094]), []), ((.nop, 0, [0, 1155091]), [])]
def b_X0_would_19 : List (ev_I × List (Nat × Nat)) := [((.nop, 0, [1, 0, 1, 2]), []), ((.bipush (-2), 2, []), []), ((.ireturn, 1, []), [])]
def b_X0_would_22 : List (ev_I × List (Nat × Nat)) := [((.aload_n 0, 1, []), []), ((.getfield 25, 3, [0, 4, 2, 1]), []), ((.iload_n 1, 1, []), []), ((.aaload, 1, []), []), ((.ifnonnull 9, 3, [1155109]), []), ((.aload_n 0, 1, []), []), ((.iconst 1, 1, []), []), ((.invokevirtual 117, 3, [2, 1, 47]), []), ((.ireturn, 1, []), [])]
def b_X0_would_37 : List (ev_I × List (Nat × Nat)) := [((.aload_n 0, 1, []), []), ((.getfield 25, 3, [0, 4, 2, 1]), []), ((.iload_n 1, 1, []), []), ((.aaload, 1, []), []), ((.invokevirtual 102, 3, [1, 4, 158]), []), ((.ifCond .ne 6, 3, [1155124]), []), ((.bipush (-3), 2, []), []), ((.ireturn, 1, []), [])]
def b_X0_would_52 : List (ev_I × List (Nat × Nat)) := [((.aload_n 0, 1, []), []), ((.invokevirtual 449, 3, [1, 1, 240]), []), ((.aload_n 0, 1, []), []), ((.iload_n 1, 1, []), []), ((.iload_n 2, 1, []), []), ((.invokevirtual 499, 3, [3, 1, 271]), []), ((.ireturn, 1, []), [])]
def tb_X0_would : List (Nat × List (ev_I × List (Nat × Nat))) := [(0, b_X0_would_0), (19, b_X0_would_19), (22, b_X0_would_22), (37, b_X0_would_37), (52, b_X0_would_52)]
def b_X3_would_0 : List (ev_I × List (Nat × Nat)) := [((.iload_n 1, 1, []), []), ((.invokestatic 122, 3, [50, 1]), []), ((.ifCond .eq 12, 3, [1159184]), []), ((.iload_n 2, 1, []), []), ((.iconst 0, 1, []), []), ((.iconst 3, 1, []), []), ((.invokestatic 114, 3, [49, 3]), []), ((.ifCond .ne 6, 3, [1159187]), []), ((.nop, 0, [0, 1159184]), [])]
def b_X3_would_16 : List (ev_I × List (Nat × Nat)) := [((.nop, 0, [1, 0, 1, 2]), []), ((.bipush (-2), 2, []), []), ((.ireturn, 1, []), [])]
def b_X3_would_19 : List (ev_I × List (Nat × Nat)) := [((.aload_n 0, 1, []), []), ((.getfield 7, 3, [0, 4, 0, 2]), []), ((.iload_n 1, 1, []), []), ((.iaload, 1, []), []), ((.iconst (-1), 1, []), []), ((.if_icmp .ne 11, 3, [1159205]), []), ((.aload_n 0, 1, []), []), ((.iconst 1, 1, []), []), ((.invokevirtual 126, 3, [2, 2, 51]), []), ((.goto 25, 3, [1159227]), [])]
def b_X3_would_37 : List (ev_I × List (Nat × Nat)) := [((.aload_n 0, 1, []), []), ((.getfield 7, 3, [0, 4, 0, 2]), []), ((.iload_n 1, 1, []), []), ((.iaload, 1, []), []), ((.iconst 4, 1, []), []), ((.if_icmp .ne 8, 3, [1159220]), []), ((.bipush (-3), 2, []), []), ((.goto 10, 3, [1159227]), [])]
def b_X3_would_52 : List (ev_I × List (Nat × Nat)) := [((.aload_n 0, 1, []), []), ((.iload_n 1, 1, []), []), ((.iload_n 1, 1, []), []), ((.iload_n 2, 1, []), []), ((.invokevirtual 310, 3, [4, 2, 279]), []), ((.nop, 0, [0, 1159227]), [])]
def b_X3_would_59 : List (ev_I × List (Nat × Nat)) := [((.nop, 0, [1, 0, 1, 2]), []), ((.ireturn, 1, []), [])]
def tb_X3_would : List (Nat × List (ev_I × List (Nat × Nat))) := [(0, b_X3_would_0), (16, b_X3_would_16), (19, b_X3_would_19), (37, b_X3_would_37), (52, b_X3_would_52), (59, b_X3_would_59)]
def b_X0_lastOf_0 : List (ev_I × List (Nat × Nat)) := [((.iload 4, 2, []), []), ((.iconst 1, 1, []), []), ((.isub, 1, []), []), ((.istore 5, 2, []), []), ((.nop, 0, [0, 1163270]), [])]
def b_X0_lastOf_6 : List (ev_I × List (Nat × Nat)) := [((.nop, 0, [1, 4]), []), ((.iload 5, 2, []), []), ((.ifCond .lt 30, 3, [1163302]), []), ((.aload_n 0, 1, []), []), ((.getfield 49, 3, [0, 4, 8, 1]), []), ((.iload_n 1, 1, []), []), ((.iload_n 2, 1, []), []), ((.iload 5, 2, []), []), ((.invokestatic 412, 3, [233, 3]), []), ((.laload, 1, []), []), ((.iload_n 3, 1, []), []), ((.lshr, 1, []), []), ((.lconst 1, 1, []), []), ((.land, 1, []), []), ((.lconst 0, 1, []), []), ((.lcmp, 1, []), []), ((.ifCond .ne 9, 3, [1163302]), []), ((.iinc 5 (-1), 3, []), []), ((.goto (-29), 3, [1163270]), [])]
def b_X0_lastOf_38 : List (ev_I × List (Nat × Nat)) := [((.nop, 0, [1, 0, 1, 2, 3, 4]), []), ((.iload 5, 2, []), []), ((.ireturn, 1, []), [])]
def tb_X0_lastOf : List (Nat × List (ev_I × List (Nat × Nat))) := [(0, b_X0_lastOf_0), (6, b_X0_lastOf_6), (38, b_X0_lastOf_38)]
def b_X0_witnessBy_0 : List (ev_I × List (Nat × Nat)) := [((.aload_n 0, 1, []), []), ((.iload_n 1, 1, []), []), ((.invokevirtual 494, 3, [2, 1, 270]), []), ((.istore_n 3, 1, []), []), ((.iload_n 3, 1, []), []), ((.iconst (-1), 1, []), []), ((.if_icmp .eq 8, 3, [1167376]), []), ((.iload_n 2, 1, []), []), ((.iconst 1, 1, []), []), ((.if_icmp .ne 5, 3, [1167378]), []), ((.nop, 0, [0, 1167376]), [])]
def b_X0_witnessBy_16 : List (ev_I × List (Nat × Nat)) := [((.nop, 0, [1, 0, 1, 2, 4, 5, 6]), []), ((.iload_n 3, 1, []), []), ((.ireturn, 1, []), [])]
def b_X0_witnessBy_18 : List (ev_I × List (Nat × Nat)) := [((.lconst 0, 1, []), []), ((.lstore 4, 2, []), []), ((.iconst 0, 1, []), []), ((.istore 6, 2, []), []), ((.nop, 0, [0, 1167384]), [])]
def b_X0_witnessBy_24 : List (ev_I × List (Nat × Nat)) := [((.iload 6, 2, []), []), ((.iload_n 3, 1, []), []), ((.if_icmp .ge 26, 3, [1167413]), []), ((.lload 4, 2, []), []), ((.aload_n 0, 1, []), []), ((.getfield 49, 3, [0, 4, 8, 1]), []), ((.iconst 1, 1, []), []), ((.iload_n 1, 1, []), []), ((.iload 6, 2, []), []), ((.invokestatic 412, 3, [233, 3]), []), ((.laload, 1, []), []), ((.lor, 1, []), []), ((.lstore 4, 2, []), []), ((.iinc 6 1, 3, []), []), ((.goto (-26), 3, [1167384]), [])]
def b_X0_witnessBy_53 : List (ev_I × List (Nat × Nat)) := [((.lload 4, 2, []), []), ((.aload_n 0, 1, []), []), ((.getfield 49, 3, [0, 4, 8, 1]), []), ((.iconst 3, 1, []), []), ((.iload_n 1, 1, []), []), ((.iload_n 3, 1, []), []), ((.invokestatic 412, 3, [233, 3]), []), ((.laload, 1, []), []), ((.land, 1, []), []), ((.invokestatic 460, 3, [255, 1]), []), ((.istore 6, 2, []), []), ((.iload_n 2, 1, []), []), ((.iconst 2, 1, []), []), ((.if_icmp .ne 8, 3, [1167442]), []), ((.iload 6, 2, []), []), ((.goto 12, 3, [1167451]), [])]
def b_X0_witnessBy_82 : List (ev_I × List (Nat × Nat)) := [((.aload_n 0, 1, []), []), ((.iconst 1, 1, []), []), ((.iload_n 1, 1, []), []), ((.iload 6, 2, []), []), ((.iload_n 3, 1, []), []), ((.invokevirtual 505, 3, [5, 1, 284]), []), ((.nop, 0, [0, 1167451]), [])]
def b_X0_witnessBy_91 : List (ev_I × List (Nat × Nat)) := [((.nop, 0, [1, 0, 1, 2, 3, 4, 5, 6]), []), ((.ireturn, 1, []), [])]
def tb_X0_witnessBy : List (Nat × List (ev_I × List (Nat × Nat))) := [(0, b_X0_witnessBy_0), (16, b_X0_witnessBy_16), (18, b_X0_witnessBy_18), (24, b_X0_witnessBy_24), (53, b_X0_witnessBy_53), (82, b_X0_witnessBy_82), (91, b_X0_witnessBy_91)]
def b_X0_witness_0 : List (ev_I × List (Nat × Nat)) := [((.iload_n 1, 1, []), []), ((.invokestatic 106, 3, [44, 1]), []), ((.ifCond .eq 15, 3, [1171475]), []), ((.iload_n 2, 1, []), []), ((.i2l, 1, []), []), ((.lconst 0, 1, []), []), ((.ldc2_w 224, 3, [0, 0, 2]), []), ((.invokestatic 90, 3, [43, 3]), []), ((.ifCond .ne 6, 3, [1171478]), []), ((.nop, 0, [0, 1171475]), [])]
def b_X0_witness_19 : List (ev_I × List (Nat × Nat)) := [((.nop, 0, [1, 0, 1, 2]), []), ((.bipush (-2), 2, []), []), ((.ireturn, 1, []), [])]
def b_X0_witness_22 : List (ev_I × List (Nat × Nat)) := [((.aload_n 0, 1, []), []), ((.invokevirtual 449, 3, [1, 1, 240]), []), ((.aload_n 0, 1, []), []), ((.iload_n 1, 1, []), []), ((.iload_n 2, 1, []), []), ((.invokevirtual 509, 3, [3, 1, 285]), []), ((.ireturn, 1, []), [])]
def tb_X0_witness : List (Nat × List (ev_I × List (Nat × Nat))) := [(0, b_X0_witness_0), (19, b_X0_witness_19), (22, b_X0_witness_22)]
def b_X3_witnessOf_0 : List (ev_I × List (Nat × Nat)) := [((.aload_n 0, 1, []), []), ((.invokevirtual 259, 3, [1, 2, 249]), []), ((.iconst 0, 1, []), []), ((.istore_n 3, 1, []), []), ((.iconst 0, 1, []), []), ((.istore 4, 2, []), []), ((.nop, 0, [0, 1175561]), [])]
def b_X3_witnessOf_9 : List (ev_I × List (Nat × Nat)) := [((.nop, 0, [1, 5, 6, 7]), []), ((.iload 4, 2, []), []), ((.aload_n 0, 1, []), []), ((.getfield 154, 3, [0, 0, 6, 2]), []), ((.if_icmp .ge 109, 3, [1175676]), []), ((.aload_n 0, 1, []), []), ((.iconst 3, 1, []), []), ((.iload_n 1, 1, []), []), ((.iload 4, 2, []), []), ((.invokevirtual 262, 3, [4, 2, 250]), []), ((.iload_n 3, 1, []), []), ((.iand, 1, []), []), ((.iconst 0, 1, []), []), ((.invokestatic 274, 3, [260, 2]), []), ((.istore 5, 2, []), []), ((.iload 5, 2, []), []), ((.iconst (-1), 1, []), []), ((.if_icmp .eq 70, 3, [1175659]), []), ((.iconst (-1), 1, []), []), ((.istore 6, 2, []), []), ((.iconst 0, 1, []), []), ((.istore 7, 2, []), []), ((.nop, 0, [0, 1175598]), [])]
def b_X3_witnessOf_46 : List (ev_I × List (Nat × Nat)) := [((.nop, 0, [1, 3]), []), ((.iload 7, 2, []), []), ((.iload 4, 2, []), []), ((.if_icmp .ge 35, 3, [1175637]), []), ((.aload_n 0, 1, []), []), ((.iconst 1, 1, []), []), ((.iload_n 1, 1, []), []), ((.iload 7, 2, []), []), ((.invokevirtual 262, 3, [4, 2, 250]), []), ((.iload 5, 2, []), []), ((.ishr, 1, []), []), ((.iconst 1, 1, []), []), ((.iand, 1, []), []), ((.iconst 1, 1, []), []), ((.if_icmp .ne 8, 3, [1175627]), []), ((.iload 7, 2, []), []), ((.goto 5, 3, [1175629]), [])]
def b_X3_witnessOf_75 : List (ev_I × List (Nat × Nat)) := [((.iload 6, 2, []), []), ((.nop, 0, [0, 1175629]), [])]
def b_X3_witnessOf_77 : List (ev_I × List (Nat × Nat)) := [((.nop, 0, [1, 3, 6]), []), ((.istore 6, 2, []), []), ((.iinc 7 1, 3, []), []), ((.goto (-36), 3, [1175598]), [])]
def b_X3_witnessOf_85 : List (ev_I × List (Nat × Nat)) := [((.iload_n 2, 1, []), []), ((.ifCond .ne 8, 3, [1175646]), []), ((.iload 6, 2, []), []), ((.goto 15, 3, [1175658]), [])]
def b_X3_witnessOf_94 : List (ev_I × List (Nat × Nat)) := [((.iload_n 2, 1, []), []), ((.iconst 1, 1, []), []), ((.if_icmp .ne 8, 3, [1175656]), []), ((.iload 4, 2, []), []), ((.goto 5, 3, [1175658]), [])]
def b_X3_witnessOf_104 : List (ev_I × List (Nat × Nat)) := [((.iload 5, 2, []), []), ((.nop, 0, [0, 1175658]), [])]
def b_X3_witnessOf_106 : List (ev_I × List (Nat × Nat)) := [((.nop, 0, [1, 0, 1, 2, 3, 4, 5, 6, 7]), []), ((.ireturn, 1, []), [])]
def b_X3_witnessOf_107 : List (ev_I × List (Nat × Nat)) := [((.iload_n 3, 1, []), []), ((.aload_n 0, 1, []), []), ((.iconst 1, 1, []), []), ((.iload_n 1, 1, []), []), ((.iload 4, 2, []), []), ((.invokevirtual 262, 3, [4, 2, 250]), []), ((.ior, 1, []), []), ((.istore_n 3, 1, []), []), ((.iinc 4 1, 3, []), []), ((.goto (-112), 3, [1175561]), [])]
def b_X3_witnessOf_124 : List (ev_I × List (Nat × Nat)) := [((.iconst (-1), 1, []), []), ((.ireturn, 1, []), [])]
def tb_X3_witnessOf : List (Nat × List (ev_I × List (Nat × Nat))) := [(0, b_X3_witnessOf_0), (9, b_X3_witnessOf_9), (46, b_X3_witnessOf_46), (75, b_X3_witnessOf_75), (77, b_X3_witnessOf_77), (85, b_X3_witnessOf_85), (94, b_X3_witnessOf_94), (104, b_X3_witnessOf_104), (106, b_X3_witnessOf_106), (107, b_X3_witnessOf_107), (124, b_X3_witnessOf_124)]
def b_X3_witness_0 : List (ev_I × List (Nat × Nat)) := [((.iload_n 1, 1, []), []), ((.invokestatic 122, 3, [50, 1]), []), ((.ifCond .eq 21, 3, [1179673]), []), ((.iload_n 2, 1, []), []), ((.iconst 0, 1, []), []), ((.iconst 2, 1, []), []), ((.invokestatic 114, 3, [49, 3]), []), ((.ifCond .eq 12, 3, [1179673]), []), ((.aload_n 0, 1, []), []), ((.iload_n 1, 1, []), []), ((.iload_n 2, 1, []), []), ((.invokevirtual 316, 3, [3, 2, 287]), []), ((.goto 5, 3, [1179675]), [])]
def b_X3_witness_25 : List (ev_I × List (Nat × Nat)) := [((.nop, 0, [1, 0, 1, 2]), []), ((.bipush (-2), 2, []), []), ((.nop, 0, [0, 1179675]), [])]
def b_X3_witness_27 : List (ev_I × List (Nat × Nat)) := [((.nop, 0, [1, 0, 1, 2]), []), ((.ireturn, 1, []), [])]
def tb_X3_witness : List (Nat × List (ev_I × List (Nat × Nat))) := [(0, b_X3_witness_0), (25, b_X3_witness_25), (27, b_X3_witness_27)]
def b_X0_last_0 : List (ev_I × List (Nat × Nat)) := [((.iload_n 1, 1, []), []), ((.i2l, 1, []), []), ((.lconst 1, 1, []), []), ((.ldc2_w 224, 3, [0, 0, 2]), []), ((.invokestatic 90, 3, [43, 3]), []), ((.ifCond .eq 22, 3, [1183775]), []), ((.iload_n 2, 1, []), []), ((.invokestatic 106, 3, [44, 1]), []), ((.ifCond .eq 15, 3, [1183775]), []), ((.iload_n 3, 1, []), []), ((.i2l, 1, []), []), ((.lconst 0, 1, []), []), ((.ldc2_w 512, 3, [0, 0, 23]), []), ((.invokestatic 90, 3, [43, 3]), []), ((.ifCond .ne 6, 3, [1183778]), []), ((.nop, 0, [0, 1183775]), [])]
def b_X0_last_31 : List (ev_I × List (Nat × Nat)) := [((.nop, 0, [1, 0, 1, 2, 3]), []), ((.bipush (-2), 2, []), []), ((.ireturn, 1, []), [])]
def b_X0_last_34 : List (ev_I × List (Nat × Nat)) := [((.aload_n 0, 1, []), []), ((.invokevirtual 449, 3, [1, 1, 240]), []), ((.aload_n 0, 1, []), []), ((.iload_n 1, 1, []), []), ((.iload_n 2, 1, []), []), ((.iload_n 3, 1, []), []), ((.aload_n 0, 1, []), []), ((.getfield 173, 3, [0, 0, 4, 1]), []), ((.invokevirtual 505, 3, [5, 1, 284]), []), ((.ireturn, 1, []), [])]
def tb_X0_last : List (Nat × List (ev_I × List (Nat × Nat))) := [(0, b_X0_last_0), (31, b_X0_last_31), (34, b_X0_last_34)]
def b_X3_lastOf_0 : List (ev_I × List (Nat × Nat)) := [((.aload_n 0, 1, []), []), ((.invokevirtual 259, 3, [1, 2, 249]), []), ((.iconst (-1), 1, []), []), ((.istore 4, 2, []), []), ((.iconst 0, 1, []), []), ((.istore 5, 2, []), []), ((.nop, 0, [0, 1187850]), [])]
def b_X3_lastOf_10 : List (ev_I × List (Nat × Nat)) := [((.iload 5, 2, []), []), ((.aload_n 0, 1, []), []), ((.getfield 154, 3, [0, 0, 6, 2]), []), ((.if_icmp .ge 34, 3, [1187890]), []), ((.aload_n 0, 1, []), []), ((.iload_n 1, 1, []), []), ((.iload_n 2, 1, []), []), ((.iload 5, 2, []), []), ((.invokevirtual 262, 3, [4, 2, 250]), []), ((.iload_n 3, 1, []), []), ((.ishr, 1, []), []), ((.iconst 1, 1, []), []), ((.iand, 1, []), []), ((.iconst 1, 1, []), []), ((.if_icmp .ne 8, 3, [1187880]), []), ((.iload 5, 2, []), []), ((.goto 5, 3, [1187882]), [])]
def b_X3_lastOf_40 : List (ev_I × List (Nat × Nat)) := [((.iload 4, 2, []), []), ((.nop, 0, [0, 1187882]), [])]
def b_X3_lastOf_42 : List (ev_I × List (Nat × Nat)) := [((.nop, 0, [1, 4]), []), ((.istore 4, 2, []), []), ((.iinc 5 1, 3, []), []), ((.goto (-37), 3, [1187850]), [])]
def b_X3_lastOf_50 : List (ev_I × List (Nat × Nat)) := [((.iload 4, 2, []), []), ((.ireturn, 1, []), [])]
def tb_X3_lastOf : List (Nat × List (ev_I × List (Nat × Nat))) := [(0, b_X3_lastOf_0), (10, b_X3_lastOf_10), (40, b_X3_lastOf_40), (42, b_X3_lastOf_42), (50, b_X3_lastOf_50)]
def b_X3_last_0 : List (ev_I × List (Nat × Nat)) := [((.iload_n 1, 1, []), []), ((.iconst 1, 1, []), []), ((.iconst 2, 1, []), []), ((.invokestatic 114, 3, [49, 3]), []), ((.ifCond .eq 30, 3, [1191972]), []), ((.iload_n 2, 1, []), []), ((.invokestatic 122, 3, [50, 1]), []), ((.ifCond .eq 23, 3, [1191972]), []), ((.iload_n 3, 1, []), []), ((.iconst 0, 1, []), []), ((.bipush 23, 2, []), []), ((.invokestatic 114, 3, [49, 3]), []), ((.ifCond .eq 13, 3, [1191972]), []), ((.aload_n 0, 1, []), []), ((.iload_n 1, 1, []), []), ((.iload_n 2, 1, []), []), ((.iload_n 3, 1, []), []), ((.invokevirtual 319, 3, [4, 2, 290]), []), ((.goto 5, 3, [1191974]), [])]
def b_X3_last_36 : List (ev_I × List (Nat × Nat)) := [((.nop, 0, [1, 0, 1, 2, 3]), []), ((.bipush (-2), 2, []), []), ((.nop, 0, [0, 1191974]), [])]
def b_X3_last_38 : List (ev_I × List (Nat × Nat)) := [((.nop, 0, [1, 0, 1, 2, 3]), []), ((.ireturn, 1, []), [])]
def tb_X3_last : List (Nat × List (ev_I × List (Nat × Nat))) := [(0, b_X3_last_0), (36, b_X3_last_36), (38, b_X3_last_38)]
def b_X2_passes_0 : List (ev_I × List (Nat × Nat)) := [((.aload_n 0, 1, []), []), ((.iconst 0, 1, []), []), ((.putfield 37, 3, [0, 0, 4, 10]), []), ((.aload_n 0, 1, []), []), ((.dup, 1, []), []), ((.getfield 27, 3, [0, 0, 3, 10]), []), ((.iconst 1, 1, []), []), ((.iadd, 1, []), []), ((.putfield 27, 3, [0, 0, 3, 10]), []), ((.nop, 0, [0, 1196047]), [])]
def b_X2_passes_15 : List (ev_I × List (Nat × Nat)) := [((.aload_n 0, 1, []), []), ((.getfield 27, 3, [0, 0, 3, 10]), []), ((.aload_n 0, 1, []), []), ((.getfield 3, 3, [0, 4, 6, 10]), []), ((.getfield 40, 3, [1, 4, 3, 1]), []), ((.invokevirtual 44, 3, [1, 18, 117]), []), ((.if_icmp .ge 43, 3, [1196104]), []), ((.aload_n 0, 1, []), []), ((.getfield 3, 3, [0, 4, 6, 10]), []), ((.getfield 40, 3, [1, 4, 3, 1]), []), ((.aload_n 0, 1, []), []), ((.getfield 27, 3, [0, 0, 3, 10]), []), ((.invokevirtual 50, 3, [2, 18, 133]), []), ((.checkcast 54, 3, [1, 5]), []), ((.aload_n 0, 1, []), []), ((.getfield 23, 3, [0, 0, 2, 10]), []), ((.invokevirtual 56, 3, [2, 5, 167]), []), ((.ifCond .ne 16, 3, [1196104]), []), ((.aload_n 0, 1, []), []), ((.dup, 1, []), []), ((.getfield 27, 3, [0, 0, 3, 10]), []), ((.iconst 1, 1, []), []), ((.iadd, 1, []), []), ((.putfield 27, 3, [0, 0, 3, 10]), []), ((.goto (-54), 3, [1196047]), [])]
def b_X2_passes_72 : List (ev_I × List (Nat × Nat)) := [((.nop, 0, [1, 0]), []), ((.return_, 1, []), [])]
def tb_X2_passes : List (Nat × List (ev_I × List (Nat × Nat))) := [(0, b_X2_passes_0), (15, b_X2_passes_15), (72, b_X2_passes_72)]
def b_X2_begins_0 : List (ev_I × List (Nat × Nat)) := [((.aload_n 0, 1, []), []), ((.iload_n 1, 1, []), []), ((.putfield 23, 3, [0, 0, 2, 10]), []), ((.aload_n 0, 1, []), []), ((.iconst (-1), 1, []), []), ((.putfield 27, 3, [0, 0, 3, 10]), []), ((.aload_n 0, 1, []), []), ((.iconst 0, 1, []), []), ((.putfield 30, 3, [0, 5, 5, 10]), []), ((.iconst 0, 1, []), []), ((.istore_n 2, 1, []), []), ((.nop, 0, [0, 1200145]), [])]
def b_X2_begins_17 : List (ev_I × List (Nat × Nat)) := [((.nop, 0, [1, 1]), []), ((.iload_n 2, 1, []), []), ((.aload_n 0, 1, []), []), ((.getfield 19, 3, [0, 4, 1, 10]), []), ((.arraylength, 1, []), []), ((.if_icmp .ge 16, 3, [1200167]), []), ((.aload_n 0, 1, []), []), ((.getfield 19, 3, [0, 4, 1, 10]), []), ((.iload_n 2, 1, []), []), ((.iconst 0, 1, []), []), ((.bastore, 1, []), []), ((.iinc 2 1, 3, []), []), ((.goto (-19), 3, [1200145]), [])]
def b_X2_begins_39 : List (ev_I × List (Nat × Nat)) := [((.aload_n 0, 1, []), []), ((.invokevirtual 34, 3, [1, 10, 292]), []), ((.return_, 1, []), [])]
def tb_X2_begins : List (Nat × List (ev_I × List (Nat × Nat))) := [(0, b_X2_begins_0), (17, b_X2_begins_17), (39, b_X2_begins_39)]
def b_X0_begins_0 : List (ev_I × List (Nat × Nat)) := [((.aload_n 0, 1, []), []), ((.invokevirtual 449, 3, [1, 1, 240]), []), ((.iconst 0, 1, []), []), ((.istore_n 2, 1, []), []), ((.nop, 0, [0, 1204230]), [])]
def b_X0_begins_6 : List (ev_I × List (Nat × Nat)) := [((.nop, 0, [1, 3, 4, 5]), []), ((.iload_n 2, 1, []), []), ((.bipush 6, 2, []), []), ((.if_icmp .ge 81, 3, [1204314]), []), ((.aload_n 0, 1, []), []), ((.iload_n 2, 1, []), []), ((.invokevirtual 502, 3, [2, 1, 272]), []), ((.istore_n 3, 1, []), []), ((.aload_n 0, 1, []), []), ((.getfield 56, 3, [0, 4, 10, 1]), []), ((.iload_n 2, 1, []), []), ((.iload_n 1, 1, []), []), ((.ifCond .eq 17, 3, [1204265]), []), ((.iload_n 3, 1, []), []), ((.iconst 2, 1, []), []), ((.if_icmp .eq 8, 3, [1204261]), []), ((.iload_n 3, 1, []), []), ((.iconst 3, 1, []), []), ((.if_icmp .ne 7, 3, [1204265]), []), ((.nop, 0, [0, 1204261]), [])]
def b_X0_begins_37 : List (ev_I × List (Nat × Nat)) := [((.nop, 0, [1, 4, 5]), []), ((.iload_n 3, 1, []), []), ((.goto 4, 3, [1204266]), [])]
def b_X0_begins_41 : List (ev_I × List (Nat × Nat)) := [((.nop, 0, [1, 3, 4, 5]), []), ((.iconst 1, 1, []), []), ((.nop, 0, [0, 1204266]), [])]
def b_X0_begins_42 : List (ev_I × List (Nat × Nat)) := [((.nop, 0, [1, 3, 4, 5]), []), ((.iastore, 1, []), []), ((.aload_n 0, 1, []), []), ((.getfield 25, 3, [0, 4, 2, 1]), []), ((.iload_n 2, 1, []), []), ((.aaload, 1, []), []), ((.astore 4, 2, []), []), ((.iconst 0, 1, []), []), ((.istore 5, 2, []), []), ((.nop, 0, [0, 1204278]), [])]
def b_X0_begins_54 : List (ev_I × List (Nat × Nat)) := [((.nop, 0, [1, 3]), []), ((.aload 4, 2, []), []), ((.ifnull 28, 3, [1204308]), []), ((.iload 5, 2, []), []), ((.aload 4, 2, []), []), ((.getfield 121, 3, [1, 0, 2, 4]), []), ((.if_icmp .ge 18, 3, [1204308]), []), ((.aload 4, 2, []), []), ((.getfield 551, 3, [1, 4, 3, 4]), []), ((.iload 5, 2, []), []), ((.iconst (-1), 1, []), []), ((.iastore, 1, []), []), ((.iinc 5 1, 3, []), []), ((.goto (-27), 3, [1204278]), [])]
def b_X0_begins_84 : List (ev_I × List (Nat × Nat)) := [((.nop, 0, [1, 3, 4, 5]), []), ((.iinc 2 1, 3, []), []), ((.goto (-81), 3, [1204230]), [])]
def b_X0_begins_90 : List (ev_I × List (Nat × Nat)) := [((.iconst 0, 1, []), []), ((.istore_n 2, 1, []), []), ((.nop, 0, [0, 1204316]), [])]
def b_X0_begins_92 : List (ev_I × List (Nat × Nat)) := [((.nop, 0, [1, 1, 3, 4, 5]), []), ((.iload_n 2, 1, []), []), ((.iconst 3, 1, []), []), ((.if_icmp .ge 16, 3, [1204334]), []), ((.aload_n 0, 1, []), []), ((.getfield 60, 3, [0, 4, 11, 1]), []), ((.iload_n 2, 1, []), []), ((.iconst 0, 1, []), []), ((.iastore, 1, []), []), ((.iinc 2 1, 3, []), []), ((.goto (-15), 3, [1204316]), [])]
def b_X0_begins_110 : List (ev_I × List (Nat × Nat)) := [((.aload_n 0, 1, []), []), ((.iconst 0, 1, []), []), ((.putfield 554, 3, [0, 0, 14, 1]), []), ((.aload_n 0, 1, []), []), ((.iconst 0, 1, []), []), ((.putfield 557, 3, [0, 0, 15, 1]), []), ((.iconst 0, 1, []), []), ((.istore_n 2, 1, []), []), ((.nop, 0, [0, 1204346]), [])]
def b_X0_begins_122 : List (ev_I × List (Nat × Nat)) := [((.nop, 0, [1, 1, 3, 4, 5]), []), ((.iload_n 2, 1, []), []), ((.aload_n 0, 1, []), []), ((.getfield 173, 3, [0, 0, 4, 1]), []), ((.if_icmp .ge 19, 3, [1204370]), []), ((.aload_n 0, 1, []), []), ((.getfield 68, 3, [0, 4, 12, 1]), []), ((.iload_n 2, 1, []), []), ((.aaload, 1, []), []), ((.iload_n 2, 1, []), []), ((.invokevirtual 560, 3, [2, 10, 293]), []), ((.iinc 2 1, 3, []), []), ((.goto (-21), 3, [1204346]), [])]
def b_X0_begins_146 : List (ev_I × List (Nat × Nat)) := [((.return_, 1, []), [])]
def tb_X0_begins : List (Nat × List (ev_I × List (Nat × Nat))) := [(0, b_X0_begins_0), (6, b_X0_begins_6), (37, b_X0_begins_37), (41, b_X0_begins_41), (42, b_X0_begins_42), (54, b_X0_begins_54), (84, b_X0_begins_84), (90, b_X0_begins_90), (92, b_X0_begins_92), (110, b_X0_begins_110), (122, b_X0_begins_122), (146, b_X0_begins_146)]
def b_X2_isLeft_0 : List (ev_I × List (Nat × Nat)) := [((.aload_n 0, 1, []), []), ((.getfield 30, 3, [0, 5, 5, 10]), []), ((.ifCond .ne 24, 3, [1208348]), []), ((.aload_n 0, 1, []), []), ((.getfield 27, 3, [0, 0, 3, 10]), []), ((.aload_n 0, 1, []), []), ((.getfield 3, 3, [0, 4, 6, 10]), []), ((.getfield 40, 3, [1, 4, 3, 1]), []), ((.invokevirtual 44, 3, [1, 18, 117]), []), ((.if_icmp .ge 7, 3, [1208348]), []), ((.iconst 1, 1, []), []), ((.goto 4, 3, [1208349]), [])]
def b_X2_isLeft_28 : List (ev_I × List (Nat × Nat)) := [((.nop, 0, [1, 0]), []), ((.iconst 0, 1, []), []), ((.nop, 0, [0, 1208349]), [])]
def b_X2_isLeft_29 : List (ev_I × List (Nat × Nat)) := [((.nop, 0, [1, 0]), []), ((.ireturn, 1, [5]), [])]
def tb_X2_isLeft : List (Nat × List (ev_I × List (Nat × Nat))) := [(0, b_X2_isLeft_0), (28, b_X2_isLeft_28), (29, b_X2_isLeft_29)]
def b_X2_wrong_0 : List (ev_I × List (Nat × Nat)) := [((.aload_n 1, 1, []), []), ((.getfield 60, 3, [1, 0, 0, 6]), []), ((.iconst (-1), 1, []), []), ((.if_icmp .ne 5, 3, [1212426]), []), ((.iconst (-1), 1, []), []), ((.ireturn, 1, []), [])]
def b_X2_wrong_10 : List (ev_I × List (Nat × Nat)) := [((.aload_n 0, 1, []), []), ((.getfield 3, 3, [0, 4, 6, 10]), []), ((.aload_n 1, 1, []), []), ((.getfield 60, 3, [1, 0, 0, 6]), []), ((.invokevirtual 88, 3, [2, 1, 159]), []), ((.astore_n 2, 1, []), []), ((.aload_n 2, 1, []), []), ((.ifnonnull 7, 3, [1212446]), []), ((.iconst 0, 1, []), []), ((.goto 32, 3, [1212475]), [])]
def b_X2_wrong_30 : List (ev_I × List (Nat × Nat)) := [((.aload_n 2, 1, []), []), ((.aload_n 1, 1, []), []), ((.getfield 65, 3, [1, 4, 4, 6]), []), ((.aload_n 0, 1, []), []), ((.getfield 23, 3, [0, 0, 2, 10]), []), ((.aload_n 0, 1, []), []), ((.getfield 37, 3, [0, 0, 4, 10]), []), ((.invokeinterface 69 3, 5, [1, 3, 0, 131, 135]), []), ((.invokevirtual 92, 3, [2, 4, 165]), []), ((.ifCond .eq 7, 3, [1212474]), []), ((.iconst (-1), 1, []), []), ((.goto 4, 3, [1212475]), [])]
def b_X2_wrong_58 : List (ev_I × List (Nat × Nat)) := [((.iconst 1, 1, []), []), ((.nop, 0, [0, 1212475]), [])]
def b_X2_wrong_59 : List (ev_I × List (Nat × Nat)) := [((.nop, 0, [1, 0, 1, 2]), []), ((.ireturn, 1, []), [])]
def tb_X2_wrong : List (Nat × List (ev_I × List (Nat × Nat))) := [(0, b_X2_wrong_0), (10, b_X2_wrong_10), (30, b_X2_wrong_30), (58, b_X2_wrong_58), (59, b_X2_wrong_59)]
def b_X2_against_0 : List (ev_I × List (Nat × Nat)) := [((.aload_n 0, 1, []), []), ((.aload_n 1, 1, []), []), ((.iconst 1, 1, []), []), ((.invokevirtual 94, 3, [2, 5, 134]), []), ((.invokevirtual 97, 3, [2, 10, 296]), []), ((.istore_n 2, 1, []), []), ((.iload_n 2, 1, []), []), ((.iconst (-1), 1, []), []), ((.if_icmp .ne 21, 3, [1216545]), []), ((.aload_n 1, 1, []), []), ((.iconst 2, 1, []), []), ((.invokevirtual 101, 3, [2, 5, 209]), []), ((.ifCond .eq 13, 3, [1216545]), []), ((.aload_n 0, 1, []), []), ((.aload_n 1, 1, []), []), ((.iconst 2, 1, []), []), ((.invokevirtual 94, 3, [2, 5, 134]), []), ((.invokevirtual 97, 3, [2, 10, 296]), []), ((.istore_n 2, 1, []), []), ((.nop, 0, [0, 1216545]), [])]
def b_X2_against_33 : List (ev_I × List (Nat × Nat)) := [((.iload_n 2, 1, []), []), ((.iconst (-1), 1, []), []), ((.if_icmp .ne 15, 3, [1216562]), []), ((.aload_n 0, 1, []), []), ((.aload_n 1, 1, []), []), ((.iconst 0, 1, []), []), ((.invokevirtual 94, 3, [2, 5, 134]), []), ((.invokevirtual 97, 3, [2, 10, 296]), []), ((.goto 4, 3, [1216563]), [])]
def b_X2_against_50 : List (ev_I × List (Nat × Nat)) := [((.iload_n 2, 1, []), []), ((.nop, 0, [0, 1216563]), [])]
def b_X2_against_51 : List (ev_I × List (Nat × Nat)) := [((.nop, 0, [1, 0, 1, 2]), []), ((.ireturn, 1, []), [])]
def tb_X2_against : List (Nat × List (ev_I × List (Nat × Nat))) := [(0, b_X2_against_0), (33, b_X2_against_33), (50, b_X2_against_50), (51, b_X2_against_51)]
def b_X4_at_0 : List (ev_I × List (Nat × Nat)) := [((.aload_n 0, 1, []), []), ((.getfield 9, 3, [0, 0, 1, 4]), []), ((.tableswitch 61 0 2 #[28, 39, 50], 28, [1220673, 1220640, 1220651, 1220662]), [])]
def b_X4_at_32 : List (ev_I × List (Nat × Nat)) := [((.aload_n 0, 1, []), []), ((.getfield 19, 3, [0, 4, 0, 4]), []), ((.checkcast 34, 3, [1, 46]), []), ((.iload_n 1, 1, []), []), ((.saload, 1, []), []), ((.i2d, 1, []), []), ((.dreturn, 1, []), [])]
def b_X4_at_43 : List (ev_I × List (Nat × Nat)) := [((.aload_n 0, 1, []), []), ((.getfield 19, 3, [0, 4, 0, 4]), []), ((.checkcast 36, 3, [1, 40]), []), ((.iload_n 1, 1, []), []), ((.iaload, 1, []), []), ((.i2d, 1, []), []), ((.dreturn, 1, []), [])]
def b_X4_at_54 : List (ev_I × List (Nat × Nat)) := [((.aload_n 0, 1, []), []), ((.getfield 19, 3, [0, 4, 0, 4]), []), ((.checkcast 37, 3, [1, 42]), []), ((.iload_n 1, 1, []), []), ((.faload, 1, []), []), ((.f2d, 1, []), []), ((.dreturn, 1, []), [])]
def b_X4_at_65 : List (ev_I × List (Nat × Nat)) := [((.aload_n 0, 1, []), []), ((.getfield 19, 3, [0, 4, 0, 4]), []), ((.checkcast 40, 3, [1, 43]), []), ((.iload_n 1, 1, []), []), ((.daload, 1, []), []), ((.dreturn, 1, []), [])]
def tb_X4_at : List (Nat × List (ev_I × List (Nat × Nat))) := [(0, b_X4_at_0), (32, b_X4_at_32), (43, b_X4_at_43), (54, b_X4_at_54), (65, b_X4_at_65)]
def b_X2_value_0 : List (ev_I × List (Nat × Nat)) := [((.aload_n 1, 1, []), []), ((.getfield 60, 3, [1, 0, 0, 6]), []), ((.iconst (-1), 1, []), []), ((.if_icmp .ne 16, 3, [1224725]), []), ((.aload_n 1, 1, []), []), ((.getfield 65, 3, [1, 4, 4, 6]), []), ((.iconst 0, 1, []), []), ((.iconst 0, 1, []), []), ((.invokeinterface 69 3, 5, [1, 3, 0, 131, 135]), []), ((.i2d, 1, []), []), ((.dreturn, 1, []), [])]
def b_X2_value_21 : List (ev_I × List (Nat × Nat)) := [((.aload_n 1, 1, []), []), ((.getfield 65, 3, [1, 4, 4, 6]), []), ((.aload_n 0, 1, []), []), ((.getfield 23, 3, [0, 0, 2, 10]), []), ((.aload_n 0, 1, []), []), ((.getfield 37, 3, [0, 0, 4, 10]), []), ((.invokeinterface 69 3, 5, [1, 3, 0, 131, 135]), []), ((.istore_n 2, 1, []), []), ((.bipush 24, 2, []), []), ((.aload_n 1, 1, []), []), ((.getfield 60, 3, [1, 0, 0, 6]), []), ((.imul, 1, []), []), ((.iload_n 2, 1, []), []), ((.iadd, 1, []), []), ((.istore_n 3, 1, []), []), ((.aload_n 0, 1, []), []), ((.getfield 3, 3, [0, 4, 6, 10]), []), ((.getfield 75, 3, [1, 4, 10, 1]), []), ((.aload_n 1, 1, []), []), ((.getfield 60, 3, [1, 0, 0, 6]), []), ((.iaload, 1, []), []), ((.iconst 3, 1, []), []), ((.if_icmp .ne 21, 3, [1224787]), []), ((.aload_n 0, 1, []), []), ((.getfield 19, 3, [0, 4, 1, 10]), []), ((.iload_n 3, 1, []), []), ((.baload, 1, []), []), ((.ifCond .eq 12, 3, [1224787]), []), ((.aload_n 0, 1, []), []), ((.getfield 15, 3, [0, 4, 0, 10]), []), ((.iload_n 3, 1, []), []), ((.daload, 1, []), []), ((.goto 19, 3, [1224803]), [])]
def b_X2_value_83 : List (ev_I × List (Nat × Nat)) := [((.nop, 0, [1, 3]), []), ((.aload_n 0, 1, []), []), ((.getfield 3, 3, [0, 4, 6, 10]), []), ((.getfield 79, 3, [1, 4, 2, 1]), []), ((.aload_n 1, 1, []), []), ((.getfield 60, 3, [1, 0, 0, 6]), []), ((.aaload, 1, []), []), ((.iload_n 2, 1, []), []), ((.invokevirtual 83, 3, [2, 4, 298]), []), ((.nop, 0, [0, 1224803]), [])]
def b_X2_value_99 : List (ev_I × List (Nat × Nat)) := [((.nop, 0, [1, 0, 1, 2, 3]), []), ((.dreturn, 1, []), [])]
def tb_X2_value : List (Nat × List (ev_I × List (Nat × Nat))) := [(0, b_X2_value_0), (21, b_X2_value_21), (83, b_X2_value_83), (99, b_X2_value_99)]
def b_X1_isWhole_0 : List (ev_I × List (Nat × Nat)) := [((.aload_n 0, 1, []), []), ((.getfield 9, 3, [0, 0, 0, 3]), []), ((.i2l, 1, []), []), ((.ldc2_w 39, 3, [0, 0, 6]), []), ((.ldc2_w 41, 3, [0, 0, 8]), []), ((.invokestatic 43, 3, [43, 3]), []), ((.ifCond .ne 10, 3, [1228824]), []), ((.aload_n 0, 1, []), []), ((.invokevirtual 47, 3, [1, 3, 238]), []), ((.ifCond .eq 7, 3, [1228828]), []), ((.nop, 0, [0, 1228824]), [])]
def b_X1_isWhole_24 : List (ev_I × List (Nat × Nat)) := [((.nop, 0, [1, 0]), []), ((.iconst 1, 1, []), []), ((.goto 4, 3, [1228829]), [])]
def b_X1_isWhole_28 : List (ev_I × List (Nat × Nat)) := [((.iconst 0, 1, []), []), ((.nop, 0, [0, 1228829]), [])]
def b_X1_isWhole_29 : List (ev_I × List (Nat × Nat)) := [((.nop, 0, [1, 0]), []), ((.ireturn, 1, [5]), [])]
def tb_X1_isWhole : List (Nat × List (ev_I × List (Nat × Nat))) := [(0, b_X1_isWhole_0), (24, b_X1_isWhole_24), (28, b_X1_isWhole_28), (29, b_X1_isWhole_29)]
def b_X0_formOf_0 : List (ev_I × List (Nat × Nat)) := [((.aload_n 1, 1, []), []), ((.getfield 237, 3, [1, 0, 0, 6]), []), ((.iconst (-1), 1, []), []), ((.if_icmp .ne 7, 3, [1232908]), []), ((.iconst 1, 1, []), []), ((.goto 19, 3, [1232924]), [])]
def b_X0_formOf_12 : List (ev_I × List (Nat × Nat)) := [((.iconst 1, 1, []), []), ((.aload_n 0, 1, []), []), ((.getfield 25, 3, [0, 4, 2, 1]), []), ((.aload_n 1, 1, []), []), ((.getfield 237, 3, [1, 0, 0, 6]), []), ((.aaload, 1, []), []), ((.getfield 496, 3, [1, 0, 1, 4]), []), ((.invokestatic 514, 3, [94, 2]), []), ((.nop, 0, [0, 1232924]), [])]
def b_X0_formOf_28 : List (ev_I × List (Nat × Nat)) := [((.nop, 0, [1, 0, 1]), []), ((.ireturn, 1, []), [])]
def tb_X0_formOf : List (Nat × List (ev_I × List (Nat × Nat))) := [(0, b_X0_formOf_0), (12, b_X0_formOf_12), (28, b_X0_formOf_28)]
def b_X0_widthOf_0 : List (ev_I × List (Nat × Nat)) := [((.aload_n 1, 1, []), []), ((.getfield 420, 3, [1, 4, 0, 5]), []), ((.invokevirtual 517, 3, [1, 3, 300]), []), ((.ifCond .eq 5, 3, [1237004]), []), ((.iconst 1, 1, []), []), ((.ireturn, 1, []), [])]
def b_X0_widthOf_12 : List (ev_I × List (Nat × Nat)) := [((.aload_n 0, 1, []), []), ((.aload_n 1, 1, []), []), ((.iconst 0, 1, []), []), ((.invokevirtual 233, 3, [2, 5, 134]), []), ((.invokevirtual 520, 3, [2, 1, 301]), []), ((.aload_n 0, 1, []), []), ((.aload_n 1, 1, []), []), ((.iconst 1, 1, []), []), ((.invokevirtual 233, 3, [2, 5, 134]), []), ((.invokevirtual 520, 3, [2, 1, 301]), []), ((.invokestatic 514, 3, [94, 2]), []), ((.istore_n 2, 1, []), []), ((.aload_n 1, 1, []), []), ((.iconst 2, 1, []), []), ((.invokevirtual 344, 3, [2, 5, 209]), []), ((.ifCond .eq 19, 3, [1237050]), []), ((.iload_n 2, 1, []), []), ((.aload_n 0, 1, []), []), ((.aload_n 1, 1, []), []), ((.iconst 2, 1, []), []), ((.invokevirtual 233, 3, [2, 5, 134]), []), ((.invokevirtual 520, 3, [2, 1, 301]), []), ((.invokestatic 514, 3, [94, 2]), []), ((.goto 4, 3, [1237051]), [])]
def b_X0_widthOf_58 : List (ev_I × List (Nat × Nat)) := [((.iload_n 2, 1, []), []), ((.nop, 0, [0, 1237051]), [])]
def b_X0_widthOf_59 : List (ev_I × List (Nat × Nat)) := [((.nop, 0, [1, 0, 1, 2]), []), ((.ireturn, 1, []), [])]
def tb_X0_widthOf : List (Nat × List (ev_I × List (Nat × Nat))) := [(0, b_X0_widthOf_0), (12, b_X0_widthOf_12), (58, b_X0_widthOf_58), (59, b_X0_widthOf_59)]
def b_X1_lambda_all_0_0 : List (ev_I × List (Nat × Nat)) := [((.iload_n 0, 1, []), []), ((.iload_n 1, 1, []), []), ((.iadd, 1, []), []), ((.ireturn, 1, []), [])]
def tb_X1_lambda_all_0 : List (Nat × List (ev_I × List (Nat × Nat))) := [(0, b_X1_lambda_all_0_0)]
def b_X1_lambda_all_3_0 : List (ev_I × List (Nat × Nat)) := [((.iload_n 0, 1, []), []), ((.iload_n 1, 1, []), []), ((.isub, 1, []), []), ((.ireturn, 1, []), [])]
def tb_X1_lambda_all_3 : List (Nat × List (ev_I × List (Nat × Nat))) := [(0, b_X1_lambda_all_3_0)]
def b_X1_lambda_all_6_0 : List (ev_I × List (Nat × Nat)) := [((.iload_n 0, 1, []), []), ((.iload_n 1, 1, []), []), ((.imul, 1, []), []), ((.ireturn, 1, []), [])]
def tb_X1_lambda_all_6 : List (Nat × List (ev_I × List (Nat × Nat))) := [(0, b_X1_lambda_all_6_0)]
def b_X1_rest_0 : List (ev_I × List (Nat × Nat)) := [((.iload_n 1, 1, []), []), ((.ifCond .ne 7, 3, [1253384]), []), ((.iconst 0, 1, []), []), ((.goto 6, 3, [1253387]), [])]
def b_X1_rest_8 : List (ev_I × List (Nat × Nat)) := [((.iload_n 0, 1, []), []), ((.iload_n 1, 1, []), []), ((.irem, 1, []), []), ((.nop, 0, [0, 1253387]), [])]
def b_X1_rest_11 : List (ev_I × List (Nat × Nat)) := [((.nop, 0, [1, 0, 1]), []), ((.ireturn, 1, []), [])]
def tb_X1_rest : List (Nat × List (ev_I × List (Nat × Nat))) := [(0, b_X1_rest_0), (8, b_X1_rest_8), (11, b_X1_rest_11)]
def b_X1_lambda_all_9_0 : List (ev_I × List (Nat × Nat)) := [((.iload_n 0, 1, []), []), ((.iload_n 1, 1, []), []), ((.if_icmp .le 7, 3, [1257481]), []), ((.iload_n 0, 1, []), []), ((.goto 4, 3, [1257482]), [])]
def b_X1_lambda_all_9_9 : List (ev_I × List (Nat × Nat)) := [((.iload_n 1, 1, []), []), ((.nop, 0, [0, 1257482]), [])]
def b_X1_lambda_all_9_10 : List (ev_I × List (Nat × Nat)) := [((.nop, 0, [1, 0, 1]), []), ((.ireturn, 1, []), [])]
def tb_X1_lambda_all_9 : List (Nat × List (ev_I × List (Nat × Nat))) := [(0, b_X1_lambda_all_9_0), (9, b_X1_lambda_all_9_9), (10, b_X1_lambda_all_9_10)]
def b_X1_lambda_all_12_0 : List (ev_I × List (Nat × Nat)) := [((.iload_n 0, 1, []), []), ((.iload_n 1, 1, []), []), ((.if_icmp .ge 7, 3, [1261577]), []), ((.iload_n 0, 1, []), []), ((.goto 4, 3, [1261578]), [])]
def b_X1_lambda_all_12_9 : List (ev_I × List (Nat × Nat)) := [((.iload_n 1, 1, []), []), ((.nop, 0, [0, 1261578]), [])]
def b_X1_lambda_all_12_10 : List (ev_I × List (Nat × Nat)) := [((.nop, 0, [1, 0, 1]), []), ((.ireturn, 1, []), [])]
def tb_X1_lambda_all_12 : List (Nat × List (ev_I × List (Nat × Nat))) := [(0, b_X1_lambda_all_12_0), (9, b_X1_lambda_all_12_9), (10, b_X1_lambda_all_12_10)]
def b_X1_lambda_all_15_0 : List (ev_I × List (Nat × Nat)) := [((.iload_n 0, 1, []), []), ((.iload_n 1, 1, []), []), ((.iand, 1, []), []), ((.ireturn, 1, []), [])]
def tb_X1_lambda_all_15 : List (Nat × List (ev_I × List (Nat × Nat))) := [(0, b_X1_lambda_all_15_0)]
def b_X1_lambda_all_16_0 : List (ev_I × List (Nat × Nat)) := [((.iload_n 0, 1, []), []), ((.iload_n 1, 1, []), []), ((.ior, 1, []), []), ((.ireturn, 1, []), [])]
def tb_X1_lambda_all_16 : List (Nat × List (ev_I × List (Nat × Nat))) := [(0, b_X1_lambda_all_16_0)]
def b_X1_lambda_all_17_0 : List (ev_I × List (Nat × Nat)) := [((.iload_n 0, 1, []), []), ((.iload_n 1, 1, []), []), ((.ixor, 1, []), []), ((.ireturn, 1, []), [])]
def tb_X1_lambda_all_17 : List (Nat × List (ev_I × List (Nat × Nat))) := [(0, b_X1_lambda_all_17_0)]
def b_X1_lambda_all_18_0 : List (ev_I × List (Nat × Nat)) := [((.iload_n 0, 1, []), []), ((.ireturn, 1, []), [])]
def tb_X1_lambda_all_18 : List (Nat × List (ev_I × List (Nat × Nat))) := [(0, b_X1_lambda_all_18_0)]
def b_X1_lambda_all_21_0 : List (ev_I × List (Nat × Nat)) := [((.iload_n 0, 1, []), []), ((.ireturn, 1, []), [])]
def tb_X1_lambda_all_21 : List (Nat × List (ev_I × List (Nat × Nat))) := [(0, b_X1_lambda_all_21_0)]
def b_J8_addExact_0 : List (ev_I × List (Nat × Nat)) := [((.iload_n 0, 1, []), []), ((.iload_n 1, 1, []), []), ((.iadd, 1, []), []), ((.istore_n 2, 1, []), []), ((.iload_n 0, 1, []), []), ((.iload_n 2, 1, []), []), ((.ixor, 1, []), []), ((.iload_n 1, 1, []), []), ((.iload_n 2, 1, []), []), ((.ixor, 1, []), []), ((.iand, 1, []), []), ((.ifCond .ge 13, 3, [1286168]), []), ((.new 109, 3, [3, 6, 3, 310]), []), ((.dup, 1, []), []), ((.ldc 111, 2, [2, 12]), []), ((.invokespecial 113, 3, []), []), ((.athrow, 1, []), [])]
def b_J8_addExact_24 : List (ev_I × List (Nat × Nat)) := [((.iload_n 2, 1, []), []), ((.ireturn, 1, []), [])]
def tb_J8_addExact : List (Nat × List (ev_I × List (Nat × Nat))) := [(0, b_J8_addExact_0), (24, b_J8_addExact_24)]
def b_X1_sum_0 : List (ev_I × List (Nat × Nat)) := [((.iload_n 0, 1, []), []), ((.iload_n 1, 1, []), []), ((.invokestatic 30, 3, [314, 2]), []), ((.ireturn, 1, []), [])]
def tb_X1_sum : List (Nat × List (ev_I × List (Nat × Nat))) := [(0, b_X1_sum_0)]
def b_J8_multiplyExact_0 : List (ev_I × List (Nat × Nat)) := [((.iload_n 0, 1, []), []), ((.i2l, 1, []), []), ((.iload_n 1, 1, []), []), ((.i2l, 1, []), []), ((.lmul, 1, []), []), ((.lstore_n 2, 1, []), []), ((.lload_n 2, 1, []), []), ((.l2i, 1, []), []), ((.i2l, 1, []), []), ((.lload_n 2, 1, []), []), ((.lcmp, 1, []), []), ((.ifCond .eq 13, 3, [1294360]), []), ((.new 109, 3, [3, 6, 3, 310]), []), ((.dup, 1, []), []), ((.ldc 111, 2, [2, 12]), []), ((.invokespecial 113, 3, []), []), ((.athrow, 1, []), [])]
def b_J8_multiplyExact_24 : List (ev_I × List (Nat × Nat)) := [((.lload_n 2, 1, []), []), ((.l2i, 1, []), []), ((.ireturn, 1, []), [])]
def tb_J8_multiplyExact : List (Nat × List (ev_I × List (Nat × Nat))) := [(0, b_J8_multiplyExact_0), (24, b_J8_multiplyExact_24)]
def b_X1_product_0 : List (ev_I × List (Nat × Nat)) := [((.iload_n 0, 1, []), []), ((.iload_n 1, 1, []), []), ((.invokestatic 36, 3, [316, 2]), []), ((.ireturn, 1, []), [])]
def tb_X1_product : List (Nat × List (ev_I × List (Nat × Nat))) := [(0, b_X1_product_0)]
def b_X1_lambda_all_1_0 : List (ev_I × List (Nat × Nat)) := [((.fload_n 0, 1, []), []), ((.fload_n 1, 1, []), []), ((.fadd, 1, []), []), ((.ldc 129, 2, [1, 1149239296]), []), ((.frem, 1, []), []), ((.freturn, 1, []), [])]
def tb_X1_lambda_all_1 : List (Nat × List (ev_I × List (Nat × Nat))) := [(0, b_X1_lambda_all_1_0)]
def b_X1_lambda_all_4_0 : List (ev_I × List (Nat × Nat)) := [((.fload_n 0, 1, []), []), ((.fload_n 1, 1, []), []), ((.fsub, 1, []), []), ((.ldc 129, 2, [1, 1149239296]), []), ((.frem, 1, []), []), ((.freturn, 1, []), [])]
def tb_X1_lambda_all_4 : List (Nat × List (ev_I × List (Nat × Nat))) := [(0, b_X1_lambda_all_4_0)]
def b_X1_lambda_all_7_0 : List (ev_I × List (Nat × Nat)) := [((.fload_n 0, 1, []), []), ((.fload_n 1, 1, []), []), ((.fmul, 1, []), []), ((.ldc 129, 2, [1, 1149239296]), []), ((.frem, 1, []), []), ((.freturn, 1, []), [])]
def tb_X1_lambda_all_7 : List (Nat × List (ev_I × List (Nat × Nat))) := [(0, b_X1_lambda_all_7_0)]
def b_X1_restOf_0 : List (ev_I × List (Nat × Nat)) := [((.fload_n 1, 1, []), []), ((.fconst 0, 1, []), []), ((.fcmp .l, 1, []), []), ((.ifCond .ne 7, 3, [1314826]), []), ((.fconst 0, 1, []), []), ((.goto 6, 3, [1314829]), [])]
def b_X1_restOf_10 : List (ev_I × List (Nat × Nat)) := [((.fload_n 0, 1, []), []), ((.fload_n 1, 1, []), []), ((.frem, 1, []), []), ((.nop, 0, [0, 1314829]), [])]
def b_X1_restOf_13 : List (ev_I × List (Nat × Nat)) := [((.nop, 0, [1, 0, 1]), []), ((.freturn, 1, []), [])]
def tb_X1_restOf : List (Nat × List (ev_I × List (Nat × Nat))) := [(0, b_X1_restOf_0), (10, b_X1_restOf_10), (13, b_X1_restOf_13)]
def b_X1_lambda_all_10_0 : List (ev_I × List (Nat × Nat)) := [((.fload_n 0, 1, []), []), ((.fload_n 1, 1, []), []), ((.fcmp .l, 1, []), []), ((.ifCond .le 7, 3, [1318922]), []), ((.fload_n 0, 1, []), []), ((.goto 4, 3, [1318923]), [])]
def b_X1_lambda_all_10_10 : List (ev_I × List (Nat × Nat)) := [((.fload_n 1, 1, []), []), ((.nop, 0, [0, 1318923]), [])]
def b_X1_lambda_all_10_11 : List (ev_I × List (Nat × Nat)) := [((.nop, 0, [1, 0, 1]), []), ((.freturn, 1, []), [])]
def tb_X1_lambda_all_10 : List (Nat × List (ev_I × List (Nat × Nat))) := [(0, b_X1_lambda_all_10_0), (10, b_X1_lambda_all_10_10), (11, b_X1_lambda_all_10_11)]
def b_X1_lambda_all_13_0 : List (ev_I × List (Nat × Nat)) := [((.fload_n 0, 1, []), []), ((.fload_n 1, 1, []), []), ((.fcmp .g, 1, []), []), ((.ifCond .ge 7, 3, [1323018]), []), ((.fload_n 0, 1, []), []), ((.goto 4, 3, [1323019]), [])]
def b_X1_lambda_all_13_10 : List (ev_I × List (Nat × Nat)) := [((.fload_n 1, 1, []), []), ((.nop, 0, [0, 1323019]), [])]
def b_X1_lambda_all_13_11 : List (ev_I × List (Nat × Nat)) := [((.nop, 0, [1, 0, 1]), []), ((.freturn, 1, []), [])]
def tb_X1_lambda_all_13 : List (Nat × List (ev_I × List (Nat × Nat))) := [(0, b_X1_lambda_all_13_0), (10, b_X1_lambda_all_13_10), (11, b_X1_lambda_all_13_11)]
def b_X1_lambda_all_19_0 : List (ev_I × List (Nat × Nat)) := [((.fload_n 0, 1, []), []), ((.freturn, 1, []), [])]
def tb_X1_lambda_all_19 : List (Nat × List (ev_I × List (Nat × Nat))) := [(0, b_X1_lambda_all_19_0)]
def b_X1_lambda_all_22_0 : List (ev_I × List (Nat × Nat)) := [((.fload_n 0, 1, []), []), ((.freturn, 1, []), [])]
def tb_X1_lambda_all_22 : List (Nat × List (ev_I × List (Nat × Nat))) := [(0, b_X1_lambda_all_22_0)]
def b_X1_lambda_all_2_0 : List (ev_I × List (Nat × Nat)) := [((.dload_n 0, 1, []), []), ((.dload_n 2, 1, []), []), ((.dadd, 1, []), []), ((.ldc2_w 127, 3, [1, 4652218415073722368]), []), ((.drem, 1, []), []), ((.dreturn, 1, []), [])]
def tb_X1_lambda_all_2 : List (Nat × List (ev_I × List (Nat × Nat))) := [(0, b_X1_lambda_all_2_0)]
def b_X1_lambda_all_5_0 : List (ev_I × List (Nat × Nat)) := [((.dload_n 0, 1, []), []), ((.dload_n 2, 1, []), []), ((.dsub, 1, []), []), ((.ldc2_w 127, 3, [1, 4652218415073722368]), []), ((.drem, 1, []), []), ((.dreturn, 1, []), [])]
def tb_X1_lambda_all_5 : List (Nat × List (ev_I × List (Nat × Nat))) := [(0, b_X1_lambda_all_5_0)]
def b_X1_lambda_all_8_0 : List (ev_I × List (Nat × Nat)) := [((.dload_n 0, 1, []), []), ((.dload_n 2, 1, []), []), ((.dmul, 1, []), []), ((.ldc2_w 127, 3, [1, 4652218415073722368]), []), ((.drem, 1, []), []), ((.dreturn, 1, []), [])]
def tb_X1_lambda_all_8 : List (Nat × List (ev_I × List (Nat × Nat))) := [(0, b_X1_lambda_all_8_0)]
def b_X1_restIn_0 : List (ev_I × List (Nat × Nat)) := [((.dload_n 2, 1, []), []), ((.dconst 0, 1, []), []), ((.dcmp .l, 1, []), []), ((.ifCond .ne 7, 3, [1347594]), []), ((.dconst 0, 1, []), []), ((.goto 6, 3, [1347597]), [])]
def b_X1_restIn_10 : List (ev_I × List (Nat × Nat)) := [((.dload_n 0, 1, []), []), ((.dload_n 2, 1, []), []), ((.drem, 1, []), []), ((.nop, 0, [0, 1347597]), [])]
def b_X1_restIn_13 : List (ev_I × List (Nat × Nat)) := [((.nop, 0, [1, 0, 1, 2, 3]), []), ((.dreturn, 1, []), [])]
def tb_X1_restIn : List (Nat × List (ev_I × List (Nat × Nat))) := [(0, b_X1_restIn_0), (10, b_X1_restIn_10), (13, b_X1_restIn_13)]
def b_X1_lambda_all_11_0 : List (ev_I × List (Nat × Nat)) := [((.dload_n 0, 1, []), []), ((.dload_n 2, 1, []), []), ((.dcmp .l, 1, []), []), ((.ifCond .le 7, 3, [1351690]), []), ((.dload_n 0, 1, []), []), ((.goto 4, 3, [1351691]), [])]
def b_X1_lambda_all_11_10 : List (ev_I × List (Nat × Nat)) := [((.dload_n 2, 1, []), []), ((.nop, 0, [0, 1351691]), [])]
def b_X1_lambda_all_11_11 : List (ev_I × List (Nat × Nat)) := [((.nop, 0, [1, 0, 1, 2, 3]), []), ((.dreturn, 1, []), [])]
def tb_X1_lambda_all_11 : List (Nat × List (ev_I × List (Nat × Nat))) := [(0, b_X1_lambda_all_11_0), (10, b_X1_lambda_all_11_10), (11, b_X1_lambda_all_11_11)]
def b_X1_lambda_all_14_0 : List (ev_I × List (Nat × Nat)) := [((.dload_n 0, 1, []), []), ((.dload_n 2, 1, []), []), ((.dcmp .g, 1, []), []), ((.ifCond .ge 7, 3, [1355786]), []), ((.dload_n 0, 1, []), []), ((.goto 4, 3, [1355787]), [])]
def b_X1_lambda_all_14_10 : List (ev_I × List (Nat × Nat)) := [((.dload_n 2, 1, []), []), ((.nop, 0, [0, 1355787]), [])]
def b_X1_lambda_all_14_11 : List (ev_I × List (Nat × Nat)) := [((.nop, 0, [1, 0, 1, 2, 3]), []), ((.dreturn, 1, []), [])]
def tb_X1_lambda_all_14 : List (Nat × List (ev_I × List (Nat × Nat))) := [(0, b_X1_lambda_all_14_0), (10, b_X1_lambda_all_14_10), (11, b_X1_lambda_all_14_11)]
def b_X1_lambda_all_20_0 : List (ev_I × List (Nat × Nat)) := [((.dload_n 0, 1, []), []), ((.dreturn, 1, []), [])]
def tb_X1_lambda_all_20 : List (Nat × List (ev_I × List (Nat × Nat))) := [(0, b_X1_lambda_all_20_0)]
def b_X1_lambda_all_23_0 : List (ev_I × List (Nat × Nat)) := [((.dload_n 0, 1, []), []), ((.dreturn, 1, []), [])]
def tb_X1_lambda_all_23 : List (Nat × List (ev_I × List (Nat × Nat))) := [(0, b_X1_lambda_all_23_0)]
def b_X0_done_0 : List (ev_I × List (Nat × Nat)) := [((.iload_n 1, 1, []), []), ((.lookupswitch 61 #[(1, 27), (2, 43)], 27, [1368126, 1368092, 1368108]), [])]
def b_X0_done_28 : List (ev_I × List (Nat × Nat)) := [((.aload_n 0, 1, []), []), ((.getfield 524, 3, [1, 4, 2, 3]), []), ((.dload_n 2, 1, []), []), ((.d2i, 1, []), []), ((.dload 4, 2, []), []), ((.d2i, 1, []), []), ((.invokeinterface 528 3, 5, [1, 3, 0, 101, 104, 107, 110, 113, 116, 119, 120, 121, 122, 125, 128, 129]), []), ((.i2d, 1, []), []), ((.dreturn, 1, []), [])]
def b_X0_done_44 : List (ev_I × List (Nat × Nat)) := [((.aload_n 0, 1, []), []), ((.getfield 533, 3, [1, 4, 3, 3]), []), ((.dload_n 2, 1, []), []), ((.d2f, 1, []), []), ((.dload 4, 2, []), []), ((.d2f, 1, []), []), ((.invokeinterface 537 3, 5, [1, 3, 2, 102, 105, 108, 111, 114, 117, 123, 126]), []), ((.fconst 0, 1, []), []), ((.fadd, 1, []), []), ((.f2d, 1, []), []), ((.dreturn, 1, []), [])]
def b_X0_done_62 : List (ev_I × List (Nat × Nat)) := [((.aload_n 0, 1, []), []), ((.getfield 542, 3, [1, 4, 4, 3]), []), ((.dload_n 2, 1, []), []), ((.dload 4, 2, []), []), ((.invokeinterface 546 5, 5, [1, 3, 3, 103, 106, 109, 112, 115, 118, 124, 127]), []), ((.dconst 0, 1, []), []), ((.dadd, 1, []), []), ((.dreturn, 1, []), [])]
def tb_X0_done : List (Nat × List (ev_I × List (Nat × Nat))) := [(0, b_X0_done_0), (28, b_X0_done_28), (44, b_X0_done_44), (62, b_X0_done_62)]
def b_X4_cast_0 : List (ev_I × List (Nat × Nat)) := [((.aload_n 0, 1, []), []), ((.getfield 9, 3, [0, 0, 1, 4]), []), ((.tableswitch 43 0 2 #[28, 33, 37], 28, [1372207, 1372192, 1372197, 1372201]), [])]
def b_X4_cast_32 : List (ev_I × List (Nat × Nat)) := [((.dload_n 1, 1, []), []), ((.d2i, 1, []), []), ((.i2s, 1, []), []), ((.i2d, 1, []), []), ((.dreturn, 1, []), [])]
def b_X4_cast_37 : List (ev_I × List (Nat × Nat)) := [((.dload_n 1, 1, []), []), ((.d2i, 1, []), []), ((.i2d, 1, []), []), ((.dreturn, 1, []), [])]
def b_X4_cast_41 : List (ev_I × List (Nat × Nat)) := [((.dload_n 1, 1, []), []), ((.d2f, 1, []), []), ((.fconst 0, 1, []), []), ((.fadd, 1, []), []), ((.f2d, 1, []), []), ((.dreturn, 1, []), [])]
def b_X4_cast_47 : List (ev_I × List (Nat × Nat)) := [((.dload_n 1, 1, []), []), ((.dconst 0, 1, []), []), ((.dadd, 1, []), []), ((.dreturn, 1, []), [])]
def tb_X4_cast : List (Nat × List (ev_I × List (Nat × Nat))) := [(0, b_X4_cast_0), (32, b_X4_cast_32), (37, b_X4_cast_37), (41, b_X4_cast_41), (47, b_X4_cast_47)]
def b_X2_brings_0 : List (ev_I × List (Nat × Nat)) := [((.aload_n 1, 1, []), []), ((.iconst 0, 1, []), []), ((.invokevirtual 94, 3, [2, 5, 134]), []), ((.astore 4, 2, []), []), ((.bipush 24, 2, []), []), ((.aload 4, 2, []), []), ((.getfield 60, 3, [1, 0, 0, 6]), []), ((.imul, 1, []), []), ((.aload 4, 2, []), []), ((.getfield 65, 3, [1, 4, 4, 6]), []), ((.aload_n 0, 1, []), []), ((.getfield 23, 3, [0, 0, 2, 10]), []), ((.aload_n 0, 1, []), []), ((.getfield 37, 3, [0, 0, 4, 10]), []), ((.invokeinterface 69 3, 5, [1, 3, 0, 131, 135]), []), ((.iadd, 1, []), []), ((.istore 5, 2, []), []), ((.aload_n 0, 1, []), []), ((.getfield 3, 3, [0, 4, 6, 10]), []), ((.getfield 79, 3, [1, 4, 2, 1]), []), ((.aload 4, 2, []), []), ((.getfield 60, 3, [1, 0, 0, 6]), []), ((.aaload, 1, []), []), ((.astore 6, 2, []), []), ((.aload_n 1, 1, []), []), ((.getfield 111, 3, [1, 4, 0, 5]), []), ((.getfield 115, 3, [1, 0, 1, 3]), []), ((.iconst 1, 1, []), []), ((.if_icmp .ne 7, 3, [1376322]), []), ((.iconst 1, 1, []), []), ((.goto 4, 3, [1376323]), [])]
def b_X2_brings_66 : List (ev_I × List (Nat × Nat)) := [((.iconst 0, 1, []), []), ((.nop, 0, [0, 1376323]), [])]
def b_X2_brings_67 : List (ev_I × List (Nat × Nat)) := [((.nop, 0, [1, 4, 7]), []), ((.istore 7, 2, []), []), ((.iload 7, 2, []), []), ((.ifCond .eq 21, 3, [1376348]), []), ((.aload_n 0, 1, []), []), ((.getfield 19, 3, [0, 4, 1, 10]), []), ((.iload 5, 2, []), []), ((.baload, 1, []), []), ((.ifCond .ne 11, 3, [1376348]), []), ((.aload_n 0, 1, []), []), ((.getfield 15, 3, [0, 4, 0, 10]), []), ((.iload 5, 2, []), []), ((.dconst 0, 1, []), []), ((.dastore, 1, []), []), ((.nop, 0, [0, 1376348]), [])]
def b_X2_brings_92 : List (ev_I × List (Nat × Nat)) := [((.nop, 0, [1, 4]), []), ((.aload_n 0, 1, []), []), ((.getfield 15, 3, [0, 4, 0, 10]), []), ((.iload 5, 2, []), []), ((.aload_n 0, 1, []), []), ((.getfield 19, 3, [0, 4, 1, 10]), []), ((.iload 5, 2, []), []), ((.baload, 1, []), []), ((.ifCond .ne 8, 3, [1376369]), []), ((.iload 7, 2, []), []), ((.ifCond .eq 34, 3, [1376400]), []), ((.nop, 0, [0, 1376369]), [])]
def b_X2_brings_113 : List (ev_I × List (Nat × Nat)) := [((.nop, 0, [1, 4, 7]), []), ((.aload 6, 2, []), []), ((.aload_n 1, 1, []), []), ((.getfield 111, 3, [1, 4, 0, 5]), []), ((.aload_n 0, 1, []), []), ((.getfield 3, 3, [0, 4, 6, 10]), []), ((.aload_n 1, 1, []), []), ((.invokevirtual 120, 3, [2, 1, 302]), []), ((.aload_n 0, 1, []), []), ((.getfield 15, 3, [0, 4, 0, 10]), []), ((.iload 5, 2, []), []), ((.daload, 1, []), []), ((.dload_n 2, 1, []), []), ((.invokestatic 124, 3, [334, 4]), []), ((.invokevirtual 128, 3, [2, 4, 335]), []), ((.goto 9, 3, [1376406]), [])]
def b_X2_brings_144 : List (ev_I × List (Nat × Nat)) := [((.aload 6, 2, []), []), ((.dload_n 2, 1, []), []), ((.invokevirtual 128, 3, [2, 4, 335]), []), ((.nop, 0, [0, 1376406]), [])]
def b_X2_brings_150 : List (ev_I × List (Nat × Nat)) := [((.nop, 0, [1, 1, 2, 3, 4, 6, 7]), []), ((.dastore, 1, []), []), ((.aload_n 0, 1, []), []), ((.getfield 19, 3, [0, 4, 1, 10]), []), ((.iload 5, 2, []), []), ((.iconst 1, 1, []), []), ((.bastore, 1, []), []), ((.return_, 1, []), [])]
def tb_X2_brings : List (Nat × List (ev_I × List (Nat × Nat))) := [(0, b_X2_brings_0), (66, b_X2_brings_66), (67, b_X2_brings_67), (92, b_X2_brings_92), (113, b_X2_brings_113), (144, b_X2_brings_144), (150, b_X2_brings_150)]
def b_X0_isGreater_0 : List (ev_I × List (Nat × Nat)) := [((.iload_n 0, 1, []), []), ((.iconst 1, 1, []), []), ((.if_icmp .ne 18, 3, [1380372]), []), ((.dload_n 1, 1, []), []), ((.d2i, 1, []), []), ((.dload_n 3, 1, []), []), ((.d2i, 1, []), []), ((.if_icmp .le 7, 3, [1380368]), []), ((.iconst 1, 1, []), []), ((.goto 39, 3, [1380404]), [])]
def b_X0_isGreater_16 : List (ev_I × List (Nat × Nat)) := [((.iconst 0, 1, []), []), ((.goto 35, 3, [1380404]), [])]
def b_X0_isGreater_20 : List (ev_I × List (Nat × Nat)) := [((.iload_n 0, 1, []), []), ((.iconst 2, 1, []), []), ((.if_icmp .ne 19, 3, [1380393]), []), ((.dload_n 1, 1, []), []), ((.d2f, 1, []), []), ((.dload_n 3, 1, []), []), ((.d2f, 1, []), []), ((.fcmp .l, 1, []), []), ((.ifCond .le 7, 3, [1380389]), []), ((.iconst 1, 1, []), []), ((.goto 18, 3, [1380404]), [])]
def b_X0_isGreater_37 : List (ev_I × List (Nat × Nat)) := [((.iconst 0, 1, []), []), ((.goto 14, 3, [1380404]), [])]
def b_X0_isGreater_41 : List (ev_I × List (Nat × Nat)) := [((.dload_n 1, 1, []), []), ((.dload_n 3, 1, []), []), ((.dcmp .l, 1, []), []), ((.ifCond .le 7, 3, [1380403]), []), ((.iconst 1, 1, []), []), ((.goto 4, 3, [1380404]), [])]
def b_X0_isGreater_51 : List (ev_I × List (Nat × Nat)) := [((.iconst 0, 1, []), []), ((.nop, 0, [0, 1380404]), [])]
def b_X0_isGreater_52 : List (ev_I × List (Nat × Nat)) := [((.nop, 0, [1, 0, 1, 2, 3, 4]), []), ((.ireturn, 1, [5]), [])]
def tb_X0_isGreater : List (Nat × List (ev_I × List (Nat × Nat))) := [(0, b_X0_isGreater_0), (16, b_X0_isGreater_16), (20, b_X0_isGreater_20), (37, b_X0_isGreater_37), (41, b_X0_isGreater_41), (51, b_X0_isGreater_51), (52, b_X0_isGreater_52)]
def b_X4_becomes_0 : List (ev_I × List (Nat × Nat)) := [((.aload_n 0, 1, []), []), ((.getfield 9, 3, [0, 0, 1, 4]), []), ((.tableswitch 71 0 2 #[28, 43, 57], 28, [1384523, 1384480, 1384495, 1384509]), [])]
def b_X4_becomes_32 : List (ev_I × List (Nat × Nat)) := [((.aload_n 0, 1, []), []), ((.getfield 19, 3, [0, 4, 0, 4]), []), ((.checkcast 34, 3, [1, 46]), []), ((.iload_n 1, 1, []), []), ((.dload_n 2, 1, []), []), ((.d2i, 1, []), []), ((.i2s, 1, []), []), ((.sastore, 1, []), []), ((.goto 41, 3, [1384533]), [])]
def b_X4_becomes_47 : List (ev_I × List (Nat × Nat)) := [((.aload_n 0, 1, []), []), ((.getfield 19, 3, [0, 4, 0, 4]), []), ((.checkcast 36, 3, [1, 40]), []), ((.iload_n 1, 1, []), []), ((.dload_n 2, 1, []), []), ((.d2i, 1, []), []), ((.iastore, 1, []), []), ((.goto 27, 3, [1384533]), [])]
def b_X4_becomes_61 : List (ev_I × List (Nat × Nat)) := [((.aload_n 0, 1, []), []), ((.getfield 19, 3, [0, 4, 0, 4]), []), ((.checkcast 37, 3, [1, 42]), []), ((.iload_n 1, 1, []), []), ((.dload_n 2, 1, []), []), ((.d2f, 1, []), []), ((.fastore, 1, []), []), ((.goto 13, 3, [1384533]), [])]
def b_X4_becomes_75 : List (ev_I × List (Nat × Nat)) := [((.aload_n 0, 1, []), []), ((.getfield 19, 3, [0, 4, 0, 4]), []), ((.checkcast 40, 3, [1, 43]), []), ((.iload_n 1, 1, []), []), ((.dload_n 2, 1, []), []), ((.dastore, 1, []), []), ((.nop, 0, [0, 1384533]), [])]
def b_X4_becomes_85 : List (ev_I × List (Nat × Nat)) := [((.nop, 0, [1, 0, 1, 2, 3]), []), ((.return_, 1, []), [])]
def tb_X4_becomes : List (Nat × List (ev_I × List (Nat × Nat))) := [(0, b_X4_becomes_0), (32, b_X4_becomes_32), (47, b_X4_becomes_47), (61, b_X4_becomes_61), (75, b_X4_becomes_75), (85, b_X4_becomes_85)]
def b_X2_writes_0 : List (ev_I × List (Nat × Nat)) := [((.aload_n 1, 1, []), []), ((.getfield 65, 3, [1, 4, 4, 6]), []), ((.aload_n 0, 1, []), []), ((.getfield 23, 3, [0, 0, 2, 10]), []), ((.aload_n 0, 1, []), []), ((.getfield 37, 3, [0, 0, 4, 10]), []), ((.invokeinterface 69 3, 5, [1, 3, 0, 131, 135]), []), ((.istore 4, 2, []), []), ((.bipush 24, 2, []), []), ((.aload_n 1, 1, []), []), ((.getfield 60, 3, [1, 0, 0, 6]), []), ((.imul, 1, []), []), ((.iload 4, 2, []), []), ((.iadd, 1, []), []), ((.istore 5, 2, []), []), ((.aload_n 0, 1, []), []), ((.getfield 3, 3, [0, 4, 6, 10]), []), ((.getfield 75, 3, [1, 4, 10, 1]), []), ((.aload_n 1, 1, []), []), ((.getfield 60, 3, [1, 0, 0, 6]), []), ((.iaload, 1, []), []), ((.iconst 3, 1, []), []), ((.if_icmp .ne 22, 3, [1388610]), []), ((.aload_n 0, 1, []), []), ((.getfield 15, 3, [0, 4, 0, 10]), []), ((.iload 5, 2, []), []), ((.dload_n 2, 1, []), []), ((.dastore, 1, []), []), ((.aload_n 0, 1, []), []), ((.getfield 19, 3, [0, 4, 1, 10]), []), ((.iload 5, 2, []), []), ((.iconst 1, 1, []), []), ((.bastore, 1, []), []), ((.goto 43, 3, [1388650]), [])]
def b_X2_writes_66 : List (ev_I × List (Nat × Nat)) := [((.aload_n 0, 1, []), []), ((.getfield 3, 3, [0, 4, 6, 10]), []), ((.getfield 79, 3, [1, 4, 2, 1]), []), ((.aload_n 1, 1, []), []), ((.getfield 60, 3, [1, 0, 0, 6]), []), ((.aaload, 1, []), []), ((.iload 4, 2, []), []), ((.dload_n 2, 1, []), []), ((.invokevirtual 104, 3, [3, 4, 338]), []), ((.aload_n 0, 1, []), []), ((.getfield 3, 3, [0, 4, 6, 10]), []), ((.getfield 79, 3, [1, 4, 2, 1]), []), ((.aload_n 1, 1, []), []), ((.getfield 60, 3, [1, 0, 0, 6]), []), ((.aaload, 1, []), []), ((.getfield 108, 3, [1, 4, 3, 4]), []), ((.iload 4, 2, []), []), ((.aload_n 0, 1, []), []), ((.getfield 23, 3, [0, 0, 2, 10]), []), ((.iastore, 1, []), []), ((.nop, 0, [0, 1388650]), [])]
def b_X2_writes_106 : List (ev_I × List (Nat × Nat)) := [((.nop, 0, [1, 0, 1, 2, 3, 4, 5]), []), ((.return_, 1, []), [])]
def tb_X2_writes : List (Nat × List (ev_I × List (Nat × Nat))) := [(0, b_X2_writes_0), (66, b_X2_writes_66), (106, b_X2_writes_106)]
def b_X2_acts_0 : List (ev_I × List (Nat × Nat)) := [((.aload_n 1, 1, []), []), ((.iconst 0, 1, []), []), ((.invokevirtual 94, 3, [2, 5, 134]), []), ((.astore_n 2, 1, []), []), ((.aload_n 1, 1, []), []), ((.iconst 2, 1, []), []), ((.invokevirtual 101, 3, [2, 5, 209]), []), ((.ifCond .eq 15, 3, [1392666]), []), ((.aload_n 0, 1, []), []), ((.aload_n 1, 1, []), []), ((.iconst 2, 1, []), []), ((.invokevirtual 94, 3, [2, 5, 134]), []), ((.invokevirtual 148, 3, [2, 10, 299]), []), ((.goto 4, 3, [1392667]), [])]
def b_X2_acts_26 : List (ev_I × List (Nat × Nat)) := [((.dconst 0, 1, []), []), ((.nop, 0, [0, 1392667]), [])]
def b_X2_acts_27 : List (ev_I × List (Nat × Nat)) := [((.nop, 0, [1, 3, 4, 5, 6, 7, 8]), []), ((.dstore_n 3, 1, []), []), ((.aload_n 0, 1, []), []), ((.getfield 3, 3, [0, 4, 6, 10]), []), ((.getfield 75, 3, [1, 4, 10, 1]), []), ((.aload_n 2, 1, []), []), ((.getfield 60, 3, [1, 0, 0, 6]), []), ((.iaload, 1, []), []), ((.iconst 2, 1, []), []), ((.if_icmp .ne 11, 3, [1392692]), []), ((.aload_n 0, 1, []), []), ((.aload_n 1, 1, []), []), ((.dload_n 3, 1, []), []), ((.invokevirtual 152, 3, [3, 10, 336]), []), ((.iconst (-1), 1, []), []), ((.ireturn, 1, []), [])]
def b_X2_acts_52 : List (ev_I × List (Nat × Nat)) := [((.aload_n 0, 1, []), []), ((.aload_n 1, 1, []), []), ((.iconst 1, 1, []), []), ((.invokevirtual 94, 3, [2, 5, 134]), []), ((.invokevirtual 148, 3, [2, 10, 299]), []), ((.dstore 5, 2, []), []), ((.aload_n 0, 1, []), []), ((.getfield 3, 3, [0, 4, 6, 10]), []), ((.aload_n 1, 1, []), []), ((.invokevirtual 120, 3, [2, 1, 302]), []), ((.istore 7, 2, []), []), ((.aload_n 1, 1, []), []), ((.getfield 111, 3, [1, 4, 0, 5]), []), ((.getfield 156, 3, [1, 0, 0, 3]), []), ((.bipush 10, 2, []), []), ((.if_icmp .ne 16, 3, [1392738]), []), ((.iload 7, 2, []), []), ((.dload 5, 2, []), []), ((.dload_n 3, 1, []), []), ((.invokestatic 157, 3, [337, 3]), []), ((.ifCond .ne 5, 3, [1392738]), []), ((.iconst (-1), 1, []), []), ((.ireturn, 1, []), [])]
def b_X2_acts_98 : List (ev_I × List (Nat × Nat)) := [((.nop, 0, [1, 8]), []), ((.aload_n 0, 1, []), []), ((.aload_n 2, 1, []), []), ((.aload_n 0, 1, []), []), ((.getfield 3, 3, [0, 4, 6, 10]), [(6, 1392772)]), ((.getfield 79, 3, [1, 4, 2, 1]), [(6, 1392772)]), ((.aload_n 2, 1, []), []), ((.getfield 60, 3, [1, 0, 0, 6]), [(6, 1392772)]), ((.aaload, 1, []), [(6, 1392772)]), ((.aload_n 1, 1, []), []), ((.getfield 111, 3, [1, 4, 0, 5]), [(6, 1392772)]), ((.iload 7, 2, []), []), ((.dload 5, 2, []), []), ((.dload_n 3, 1, []), []), ((.invokestatic 124, 3, [334, 4]), [(6, 1392772)]), ((.invokevirtual 128, 3, [2, 4, 335]), [(6, 1392772)]), ((.invokevirtual 161, 3, [3, 10, 339]), [(6, 1392772)]), ((.iconst (-1), 1, []), []), ((.ireturn, 1, []), [])]
def b_X2_acts_132 : List (ev_I × List (Nat × Nat)) := [((.astore 8, 2, []), []), ((.iconst 2, 1, []), []), ((.ireturn, 1, []), [])]
def tb_X2_acts : List (Nat × List (ev_I × List (Nat × Nat))) := [(0, b_X2_acts_0), (26, b_X2_acts_26), (27, b_X2_acts_27), (52, b_X2_acts_52), (98, b_X2_acts_98), (132, b_X2_acts_132)]
def b_X2_goesOn_0 : List (ev_I × List (Nat × Nat)) := [((.aload_n 0, 1, []), []), ((.dup, 1, []), []), ((.getfield 37, 3, [0, 0, 4, 10]), []), ((.iconst 1, 1, []), []), ((.iadd, 1, []), []), ((.putfield 37, 3, [0, 0, 4, 10]), []), ((.aload_n 0, 1, []), []), ((.getfield 37, 3, [0, 0, 4, 10]), []), ((.iload_n 1, 1, []), []), ((.if_icmp .ne 7, 3, [1396758]), []), ((.aload_n 0, 1, []), []), ((.invokevirtual 34, 3, [1, 10, 292]), []), ((.nop, 0, [0, 1396758]), [])]
def b_X2_goesOn_22 : List (ev_I × List (Nat × Nat)) := [((.nop, 0, [1, 0, 1]), []), ((.return_, 1, []), [])]
def tb_X2_goesOn : List (Nat × List (ev_I × List (Nat × Nat))) := [(0, b_X2_goesOn_0), (22, b_X2_goesOn_22)]
def b_X2_steps_0 : List (ev_I × List (Nat × Nat)) := [((.aload_n 0, 1, []), []), ((.getfield 3, 3, [0, 4, 6, 10]), []), ((.getfield 40, 3, [1, 4, 3, 1]), []), ((.aload_n 0, 1, []), []), ((.getfield 27, 3, [0, 0, 3, 10]), []), ((.invokevirtual 50, 3, [2, 18, 133]), []), ((.checkcast 54, 3, [1, 5]), []), ((.astore_n 1, 1, []), []), ((.aload_n 0, 1, []), []), ((.aload_n 1, 1, []), []), ((.invokevirtual 132, 3, [2, 10, 297]), []), ((.istore_n 2, 1, []), []), ((.iload_n 2, 1, []), []), ((.iconst (-1), 1, []), []), ((.if_icmp .ne 9, 3, [1400867]), []), ((.aload_n 0, 1, []), []), ((.aload_n 1, 1, []), []), ((.invokevirtual 135, 3, [2, 10, 340]), []), ((.istore_n 2, 1, []), []), ((.nop, 0, [0, 1400867]), [])]
def b_X2_steps_35 : List (ev_I × List (Nat × Nat)) := [((.iload_n 2, 1, []), []), ((.iconst (-1), 1, []), []), ((.if_icmp .ne 13, 3, [1400882]), []), ((.aload_n 0, 1, []), []), ((.aload_n 1, 1, []), []), ((.getfield 138, 3, [1, 0, 1, 5]), []), ((.invokevirtual 141, 3, [2, 10, 341]), []), ((.iconst 1, 1, []), []), ((.ireturn, 1, [5]), [])]
def b_X2_steps_50 : List (ev_I × List (Nat × Nat)) := [((.aload_n 0, 1, []), []), ((.iconst 1, 1, []), []), ((.putfield 30, 3, [0, 5, 5, 10]), []), ((.aload_n 0, 1, []), []), ((.getfield 3, 3, [0, 4, 6, 10]), []), ((.getfield 145, 3, [1, 4, 11, 1]), []), ((.iload_n 2, 1, []), []), ((.dup2, 1, []), []), ((.iaload, 1, []), []), ((.iconst 1, 1, []), []), ((.iadd, 1, []), []), ((.iastore, 1, []), []), ((.iconst 0, 1, []), []), ((.ireturn, 1, [5]), [])]
def tb_X2_steps : List (Nat × List (ev_I × List (Nat × Nat))) := [(0, b_X2_steps_0), (35, b_X2_steps_35), (50, b_X2_steps_50)]
def b_X0_steps_0 : List (ev_I × List (Nat × Nat)) := [((.aload_n 0, 1, []), []), ((.dup, 1, []), []), ((.getfield 557, 3, [0, 0, 15, 1]), []), ((.aload_n 1, 1, []), []), ((.invokevirtual 563, 3, [1, 10, 342]), []), ((.ifCond .eq 7, 3, [1404944]), []), ((.iconst 1, 1, []), []), ((.goto 4, 3, [1404945]), [])]
def b_X0_steps_16 : List (ev_I × List (Nat × Nat)) := [((.iconst 0, 1, []), []), ((.nop, 0, [0, 1404945]), [])]
def b_X0_steps_17 : List (ev_I × List (Nat × Nat)) := [((.iadd, 1, []), []), ((.putfield 557, 3, [0, 0, 15, 1]), []), ((.aload_n 1, 1, []), []), ((.invokevirtual 566, 3, [1, 10, 295]), []), ((.ifCond .eq 4, 3, [1404957]), []), ((.return_, 1, []), [])]
def b_X0_steps_29 : List (ev_I × List (Nat × Nat)) := [((.aload_n 0, 1, []), []), ((.getfield 71, 3, [0, 4, 13, 1]), []), ((.aload_n 0, 1, []), []), ((.getfield 554, 3, [0, 0, 14, 1]), []), ((.aload_n 1, 1, []), []), ((.getfield 569, 3, [1, 0, 2, 10]), []), ((.iastore, 1, []), []), ((.aload_n 0, 1, []), []), ((.dup, 1, []), []), ((.getfield 554, 3, [0, 0, 14, 1]), []), ((.iconst 1, 1, []), []), ((.iadd, 1, []), []), ((.putfield 554, 3, [0, 0, 14, 1]), []), ((.return_, 1, []), [])]
def tb_X0_steps : List (Nat × List (ev_I × List (Nat × Nat))) := [(0, b_X0_steps_0), (16, b_X0_steps_16), (17, b_X0_steps_17), (29, b_X0_steps_29)]
def b_X0_runs_0 : List (ev_I × List (Nat × Nat)) := [((.aload_n 0, 1, []), []), ((.iconst 0, 1, []), []), ((.invokevirtual 572, 3, [2, 1, 294]), []), ((.iconst 0, 1, []), []), ((.istore_n 1, 1, []), []), ((.nop, 0, [0, 1409031]), [])]
def b_X0_runs_7 : List (ev_I × List (Nat × Nat)) := [((.iload_n 1, 1, []), []), ((.aload_n 0, 1, []), []), ((.getfield 173, 3, [0, 0, 4, 1]), []), ((.if_icmp .ge 34, 3, [1409070]), []), ((.nop, 0, [0, 1409039]), [])]
def b_X0_runs_15 : List (ev_I × List (Nat × Nat)) := [((.aload_n 0, 1, []), []), ((.getfield 68, 3, [0, 4, 12, 1]), []), ((.iload_n 1, 1, []), []), ((.aaload, 1, []), []), ((.invokevirtual 566, 3, [1, 10, 295]), []), ((.ifCond .eq 16, 3, [1409064]), []), ((.aload_n 0, 1, []), []), ((.aload_n 0, 1, []), []), ((.getfield 68, 3, [0, 4, 12, 1]), []), ((.iload_n 1, 1, []), []), ((.aaload, 1, []), []), ((.invokevirtual 575, 3, [2, 1, 343]), []), ((.goto (-22), 3, [1409039]), [])]
def b_X0_runs_40 : List (ev_I × List (Nat × Nat)) := [((.iinc 1 1, 3, []), []), ((.goto (-36), 3, [1409031]), [])]
def b_X0_runs_46 : List (ev_I × List (Nat × Nat)) := [((.return_, 1, []), [])]
def tb_X0_runs : List (Nat × List (ev_I × List (Nat × Nat))) := [(0, b_X0_runs_0), (7, b_X0_runs_7), (15, b_X0_runs_15), (40, b_X0_runs_40), (46, b_X0_runs_46)]
def b_X0_tellsRun_0 : List (ev_I × List (Nat × Nat)) := [((.iconst 0, 1, []), []), ((.istore_n 1, 1, []), []), ((.nop, 0, [0, 1413122]), [])]
def b_X0_tellsRun_2 : List (ev_I × List (Nat × Nat)) := [((.iload_n 1, 1, []), []), ((.iconst 3, 1, []), []), ((.if_icmp .ge 21, 3, [1413145]), []), ((.aload_n 0, 1, []), []), ((.getfield 74, 3, [0, 4, 16, 1]), []), ((.iload_n 1, 1, []), []), ((.aload_n 0, 1, []), []), ((.getfield 60, 3, [0, 4, 11, 1]), []), ((.iload_n 1, 1, []), []), ((.iaload, 1, []), []), ((.iastore, 1, []), []), ((.iinc 1 1, 3, []), []), ((.goto (-20), 3, [1413122]), [])]
def b_X0_tellsRun_25 : List (ev_I × List (Nat × Nat)) := [((.iconst 0, 1, []), []), ((.istore_n 1, 1, []), []), ((.nop, 0, [0, 1413147]), [])]
def b_X0_tellsRun_27 : List (ev_I × List (Nat × Nat)) := [((.iload_n 1, 1, []), []), ((.bipush 10, 2, []), []), ((.if_icmp .ge 21, 3, [1413171]), []), ((.aload_n 0, 1, []), []), ((.getfield 77, 3, [0, 4, 17, 1]), []), ((.iload_n 1, 1, []), []), ((.aload_n 0, 1, []), []), ((.getfield 71, 3, [0, 4, 13, 1]), []), ((.iload_n 1, 1, []), []), ((.iaload, 1, []), []), ((.iastore, 1, []), []), ((.iinc 1 1, 3, []), []), ((.goto (-21), 3, [1413147]), [])]
def b_X0_tellsRun_51 : List (ev_I × List (Nat × Nat)) := [((.aload_n 0, 1, []), []), ((.aload_n 0, 1, []), []), ((.getfield 554, 3, [0, 0, 14, 1]), []), ((.putfield 630, 3, [0, 0, 18, 1]), []), ((.aload_n 0, 1, []), []), ((.aload_n 0, 1, []), []), ((.getfield 557, 3, [0, 0, 15, 1]), []), ((.putfield 633, 3, [0, 0, 19, 1]), []), ((.aload_n 0, 1, []), []), ((.getfield 557, 3, [0, 0, 15, 1]), []), ((.ireturn, 1, []), [])]
def tb_X0_tellsRun : List (Nat × List (ev_I × List (Nat × Nat))) := [(0, b_X0_tellsRun_0), (2, b_X0_tellsRun_2), (25, b_X0_tellsRun_25), (27, b_X0_tellsRun_27), (51, b_X0_tellsRun_51)]
def b_X0_run_0 : List (ev_I × List (Nat × Nat)) := [((.aload_n 0, 1, []), []), ((.invokevirtual 636, 3, [1, 1, 344]), []), ((.aload_n 0, 1, []), []), ((.invokevirtual 639, 3, [1, 1, 345]), []), ((.ireturn, 1, []), [])]
def tb_X0_run : List (Nat × List (ev_I × List (Nat × Nat))) := [(0, b_X0_run_0)]
def b_X3_firstFrom_0 : List (ev_I × List (Nat × Nat)) := [((.iconst (-1), 1, []), []), ((.istore_n 3, 1, []), []), ((.aload_n 0, 1, []), []), ((.getfield 171, 3, [0, 0, 7, 2]), []), ((.iconst 1, 1, []), []), ((.isub, 1, []), []), ((.istore 4, 2, []), []), ((.nop, 0, [0, 1421322]), [])]
def b_X3_firstFrom_10 : List (ev_I × List (Nat × Nat)) := [((.iload 4, 2, []), []), ((.iload_n 1, 1, []), []), ((.if_icmp .lt 29, 3, [1421354]), []), ((.aload_n 0, 1, []), []), ((.iload 4, 2, []), []), ((.iload_n 2, 1, []), []), ((.invokevirtual 177, 3, [3, 2, 174]), []), ((.ifCond .eq 11, 3, [1421346]), []), ((.bipush 10, 2, []), []), ((.iload 4, 2, []), []), ((.imul, 1, []), []), ((.goto 4, 3, [1421347]), [])]
def b_X3_firstFrom_34 : List (ev_I × List (Nat × Nat)) := [((.iload_n 3, 1, []), []), ((.nop, 0, [0, 1421347]), [])]
def b_X3_firstFrom_35 : List (ev_I × List (Nat × Nat)) := [((.nop, 0, [1, 3]), []), ((.istore_n 3, 1, []), []), ((.iinc 4 (-1), 3, []), []), ((.goto (-29), 3, [1421322]), [])]
def b_X3_firstFrom_42 : List (ev_I × List (Nat × Nat)) := [((.iload_n 3, 1, []), []), ((.ireturn, 1, []), [])]
def tb_X3_firstFrom : List (Nat × List (ev_I × List (Nat × Nat))) := [(0, b_X3_firstFrom_0), (10, b_X3_firstFrom_10), (34, b_X3_firstFrom_34), (35, b_X3_firstFrom_35), (42, b_X3_firstFrom_42)]
def b_X3_begins_0 : List (ev_I × List (Nat × Nat)) := [((.aload_n 0, 1, []), []), ((.iconst 0, 1, []), []), ((.putfield 377, 3, [0, 0, 34, 2]), []), ((.aload_n 0, 1, []), []), ((.iconst 0, 1, []), []), ((.putfield 380, 3, [0, 0, 37, 2]), []), ((.iconst 0, 1, []), []), ((.istore_n 1, 1, []), []), ((.nop, 0, [0, 1425420]), [])]
def b_X3_begins_12 : List (ev_I × List (Nat × Nat)) := [((.iload_n 1, 1, []), []), ((.iconst 3, 1, []), []), ((.if_icmp .ge 16, 3, [1425438]), []), ((.aload_n 0, 1, []), []), ((.getfield 81, 3, [0, 4, 35, 2]), []), ((.iload_n 1, 1, []), []), ((.iconst 0, 1, []), []), ((.iastore, 1, []), []), ((.iinc 1 1, 3, []), []), ((.goto (-15), 3, [1425420]), [])]
def b_X3_begins_30 : List (ev_I × List (Nat × Nat)) := [((.iconst 0, 1, []), []), ((.istore_n 1, 1, []), []), ((.nop, 0, [0, 1425440]), [])]
def b_X3_begins_32 : List (ev_I × List (Nat × Nat)) := [((.iload_n 1, 1, []), []), ((.sipush 144, 3, []), []), ((.if_icmp .ge 28, 3, [1425472]), []), ((.aload_n 0, 1, []), []), ((.getfield 20, 3, [0, 4, 3, 2]), []), ((.iload_n 1, 1, []), []), ((.iconst (-1), 1, []), []), ((.iastore, 1, []), []), ((.aload_n 0, 1, []), []), ((.getfield 71, 3, [0, 4, 30, 2]), []), ((.iload_n 1, 1, []), []), ((.aload_n 0, 1, []), []), ((.getfield 16, 3, [0, 4, 2, 2]), []), ((.iload_n 1, 1, []), []), ((.daload, 1, []), []), ((.dastore, 1, []), []), ((.iinc 1 1, 3, []), []), ((.goto (-29), 3, [1425440]), [])]
def b_X3_begins_64 : List (ev_I × List (Nat × Nat)) := [((.iconst 0, 1, []), []), ((.istore_n 1, 1, []), []), ((.nop, 0, [0, 1425474]), [])]
def b_X3_begins_66 : List (ev_I × List (Nat × Nat)) := [((.iload_n 1, 1, []), []), ((.sipush 1440, 3, []), []), ((.if_icmp .ge 16, 3, [1425494]), []), ((.aload_n 0, 1, []), []), ((.getfield 77, 3, [0, 4, 32, 2]), []), ((.iload_n 1, 1, []), []), ((.iconst 0, 1, []), []), ((.bastore, 1, []), []), ((.iinc 1 1, 3, []), []), ((.goto (-17), 3, [1425474]), [])]
def b_X3_begins_86 : List (ev_I × List (Nat × Nat)) := [((.iconst 0, 1, []), []), ((.istore_n 1, 1, []), []), ((.nop, 0, [0, 1425496]), [])]
def b_X3_begins_88 : List (ev_I × List (Nat × Nat)) := [((.iload_n 1, 1, []), []), ((.aload_n 0, 1, []), []), ((.getfield 154, 3, [0, 0, 6, 2]), []), ((.if_icmp .ge 21, 3, [1425522]), []), ((.aload_n 0, 1, []), []), ((.getfield 87, 3, [0, 4, 40, 2]), []), ((.iload_n 1, 1, []), []), ((.aload_n 0, 1, []), []), ((.iconst 0, 1, []), []), ((.iload_n 1, 1, []), []), ((.invokevirtual 383, 3, [3, 2, 347]), []), ((.iastore, 1, []), []), ((.iinc 1 1, 3, []), []), ((.goto (-23), 3, [1425496]), [])]
def b_X3_begins_114 : List (ev_I × List (Nat × Nat)) := [((.return_, 1, []), [])]
def tb_X3_begins : List (Nat × List (ev_I × List (Nat × Nat))) := [(0, b_X3_begins_0), (12, b_X3_begins_12), (30, b_X3_begins_30), (32, b_X3_begins_32), (64, b_X3_begins_64), (66, b_X3_begins_66), (86, b_X3_begins_86), (88, b_X3_begins_88), (114, b_X3_begins_114)]
def b_X3_lacksPlace_0 : List (ev_I × List (Nat × Nat)) := [((.aload_n 0, 1, []), []), ((.getfield 41, 3, [0, 4, 13, 2]), []), ((.iload_n 1, 1, []), []), ((.iaload, 1, []), []), ((.istore 4, 2, []), []), ((.aload_n 0, 1, []), []), ((.getfield 7, 3, [0, 4, 0, 2]), []), ((.iload 4, 2, []), []), ((.iaload, 1, []), []), ((.invokestatic 185, 3, [172, 1]), []), ((.ifCond .ne 7, 3, [1429529]), []), ((.iconst 0, 1, []), []), ((.goto 31, 3, [1429557]), [])]
def b_X3_lacksPlace_25 : List (ev_I × List (Nat × Nat)) := [((.aload_n 0, 1, []), []), ((.iload_n 1, 1, []), []), ((.iload_n 2, 1, []), []), ((.iload_n 3, 1, []), []), ((.invokevirtual 200, 3, [4, 2, 194]), []), ((.iconst 0, 1, []), []), ((.aload_n 0, 1, []), []), ((.getfield 13, 3, [0, 4, 1, 2]), []), ((.iload 4, 2, []), []), ((.iaload, 1, []), []), ((.iconst 1, 1, []), []), ((.isub, 1, []), []), ((.invokestatic 114, 3, [49, 3]), []), ((.ifCond .eq 7, 3, [1429556]), []), ((.iconst (-1), 1, []), []), ((.goto 4, 3, [1429557]), [])]
def b_X3_lacksPlace_52 : List (ev_I × List (Nat × Nat)) := [((.iconst 1, 1, []), []), ((.nop, 0, [0, 1429557]), [])]
def b_X3_lacksPlace_53 : List (ev_I × List (Nat × Nat)) := [((.nop, 0, [1, 0, 1, 2, 3, 4]), []), ((.ireturn, 1, []), [])]
def tb_X3_lacksPlace : List (Nat × List (ev_I × List (Nat × Nat))) := [(0, b_X3_lacksPlace_0), (25, b_X3_lacksPlace_25), (52, b_X3_lacksPlace_52), (53, b_X3_lacksPlace_53)]
def b_X3_read_0 : List (ev_I × List (Nat × Nat)) := [((.aload_n 0, 1, []), []), ((.iload_n 1, 1, []), []), ((.invokevirtual 228, 3, [2, 2, 214]), []), ((.ifCond .ne 11, 3, [1433616]), []), ((.aload_n 0, 1, []), []), ((.getfield 44, 3, [0, 4, 14, 2]), []), ((.iload_n 1, 1, []), []), ((.iaload, 1, []), []), ((.i2d, 1, []), []), ((.dreturn, 1, []), [])]
def b_X3_read_16 : List (ev_I × List (Nat × Nat)) := [((.aload_n 0, 1, []), []), ((.aload_n 0, 1, []), []), ((.iload_n 1, 1, []), []), ((.iload_n 2, 1, []), []), ((.iload_n 3, 1, []), []), ((.invokevirtual 356, 3, [4, 2, 349]), []), ((.putfield 338, 3, [0, 0, 38, 2]), []), ((.aload_n 0, 1, []), []), ((.getfield 338, 3, [0, 0, 38, 2]), []), ((.iconst (-1), 1, []), []), ((.if_icmp .eq 5, 3, [1433637]), []), ((.dconst 0, 1, []), []), ((.dreturn, 1, []), [])]
def b_X3_read_37 : List (ev_I × List (Nat × Nat)) := [((.bipush 24, 2, []), []), ((.aload_n 0, 1, []), []), ((.getfield 41, 3, [0, 4, 13, 2]), []), ((.iload_n 1, 1, []), []), ((.iaload, 1, []), []), ((.imul, 1, []), []), ((.aload_n 0, 1, []), []), ((.iload_n 1, 1, []), []), ((.iload_n 2, 1, []), []), ((.iload_n 3, 1, []), []), ((.invokevirtual 200, 3, [4, 2, 194]), []), ((.iadd, 1, []), []), ((.istore 4, 2, []), []), ((.aload_n 0, 1, []), []), ((.getfield 359, 3, [0, 5, 33, 2]), []), ((.ifCond .eq 18, 3, [1433678]), []), ((.aload_n 0, 1, []), []), ((.getfield 68, 3, [0, 4, 29, 2]), []), ((.aload_n 0, 1, []), []), ((.getfield 41, 3, [0, 4, 13, 2]), []), ((.iload_n 1, 1, []), []), ((.iaload, 1, []), []), ((.iaload, 1, []), []), ((.iconst 3, 1, []), []), ((.if_icmp .eq 11, 3, [1433686]), []), ((.nop, 0, [0, 1433678]), [])]
def b_X3_read_78 : List (ev_I × List (Nat × Nat)) := [((.nop, 0, [1, 1, 2, 3]), []), ((.aload_n 0, 1, []), []), ((.getfield 16, 3, [0, 4, 2, 2]), []), ((.iload 4, 2, []), []), ((.daload, 1, []), []), ((.dreturn, 1, []), [])]
def b_X3_read_86 : List (ev_I × List (Nat × Nat)) := [((.aload_n 0, 1, []), []), ((.getfield 77, 3, [0, 4, 32, 2]), []), ((.sipush 144, 3, []), []), ((.iload_n 2, 1, []), []), ((.imul, 1, []), []), ((.iload 4, 2, []), []), ((.iadd, 1, []), []), ((.baload, 1, []), []), ((.ifCond .eq 19, 3, [1433718]), []), ((.aload_n 0, 1, []), []), ((.getfield 74, 3, [0, 4, 31, 2]), []), ((.sipush 144, 3, []), []), ((.iload_n 2, 1, []), []), ((.imul, 1, []), []), ((.iload 4, 2, []), []), ((.iadd, 1, []), []), ((.daload, 1, []), []), ((.goto 10, 3, [1433725]), [])]
def b_X3_read_118 : List (ev_I × List (Nat × Nat)) := [((.aload_n 0, 1, []), []), ((.getfield 71, 3, [0, 4, 30, 2]), []), ((.iload 4, 2, []), []), ((.daload, 1, []), []), ((.nop, 0, [0, 1433725]), [])]
def b_X3_read_125 : List (ev_I × List (Nat × Nat)) := [((.nop, 0, [1, 0, 1, 2, 3, 4]), []), ((.dreturn, 1, []), [])]
def tb_X3_read : List (Nat × List (ev_I × List (Nat × Nat))) := [(0, b_X3_read_0), (16, b_X3_read_16), (37, b_X3_read_37), (78, b_X3_read_78), (86, b_X3_read_86), (118, b_X3_read_118), (125, b_X3_read_125)]
def b_X3_formBy_0 : List (ev_I × List (Nat × Nat)) := [((.aload_n 0, 1, []), []), ((.getfield 41, 3, [0, 4, 13, 2]), []), ((.iload_n 1, 1, []), []), ((.iaload, 1, []), []), ((.iconst (-1), 1, []), []), ((.if_icmp .ne 7, 3, [1437710]), []), ((.iconst 1, 1, []), []), ((.goto 14, 3, [1437721]), [])]
def b_X3_formBy_14 : List (ev_I × List (Nat × Nat)) := [((.aload_n 0, 1, []), []), ((.getfield 7, 3, [0, 4, 0, 2]), []), ((.aload_n 0, 1, []), []), ((.getfield 41, 3, [0, 4, 13, 2]), []), ((.iload_n 1, 1, []), []), ((.iaload, 1, []), []), ((.iaload, 1, []), []), ((.nop, 0, [0, 1437721]), [])]
def b_X3_formBy_25 : List (ev_I × List (Nat × Nat)) := [((.nop, 0, [1, 0, 1]), []), ((.ireturn, 1, []), [])]
def tb_X3_formBy : List (Nat × List (ev_I × List (Nat × Nat))) := [(0, b_X3_formBy_0), (14, b_X3_formBy_14), (25, b_X3_formBy_25)]
def b_X3_widthOf_0 : List (ev_I × List (Nat × Nat)) := [((.aload_n 0, 1, []), []), ((.getfield 26, 3, [0, 4, 8, 2]), []), ((.iload_n 1, 1, []), []), ((.iaload, 1, []), []), ((.istore_n 2, 1, []), []), ((.iconst 1, 1, []), []), ((.istore_n 3, 1, []), []), ((.iconst 3, 1, []), []), ((.iload_n 1, 1, []), []), ((.imul, 1, []), []), ((.istore 4, 2, []), []), ((.nop, 0, [0, 1441806]), [])]
def b_X3_widthOf_14 : List (ev_I × List (Nat × Nat)) := [((.nop, 0, [1, 5]), []), ((.iload 4, 2, []), []), ((.iconst 3, 1, []), []), ((.iload_n 1, 1, []), []), ((.imul, 1, []), []), ((.iconst 3, 1, []), []), ((.iadd, 1, []), []), ((.if_icmp .ge 56, 3, [1441869]), []), ((.iload 4, 2, []), []), ((.iconst 3, 1, []), []), ((.irem, 1, []), []), ((.iconst 2, 1, []), []), ((.if_icmp .lt 9, 3, [1441830]), []), ((.iload_n 2, 1, []), []), ((.bipush 9, 2, []), []), ((.if_icmp .eq 7, 3, [1441834]), []), ((.nop, 0, [0, 1441830]), [])]
def b_X3_widthOf_38 : List (ev_I × List (Nat × Nat)) := [((.nop, 0, [1, 5]), []), ((.iconst 1, 1, []), []), ((.goto 4, 3, [1441835]), [])]
def b_X3_widthOf_42 : List (ev_I × List (Nat × Nat)) := [((.iconst 0, 1, []), []), ((.nop, 0, [0, 1441835]), [])]
def b_X3_widthOf_43 : List (ev_I × List (Nat × Nat)) := [((.nop, 0, [1, 5]), []), ((.istore 5, 2, []), []), ((.iload 5, 2, []), []), ((.ifCond .eq 22, 3, [1441861]), []), ((.aload_n 0, 1, []), []), ((.iload 4, 2, []), []), ((.invokevirtual 328, 3, [2, 2, 351]), []), ((.iload_n 3, 1, []), []), ((.if_icmp .le 12, 3, [1441861]), []), ((.aload_n 0, 1, []), []), ((.iload 4, 2, []), []), ((.invokevirtual 328, 3, [2, 2, 351]), []), ((.goto 4, 3, [1441862]), [])]
def b_X3_widthOf_69 : List (ev_I × List (Nat × Nat)) := [((.nop, 0, [1, 5]), []), ((.iload_n 3, 1, []), []), ((.nop, 0, [0, 1441862]), [])]
def b_X3_widthOf_70 : List (ev_I × List (Nat × Nat)) := [((.nop, 0, [1, 3, 5]), []), ((.istore_n 3, 1, []), []), ((.iinc 4 1, 3, []), []), ((.goto (-60), 3, [1441806]), [])]
def b_X3_widthOf_77 : List (ev_I × List (Nat × Nat)) := [((.iload_n 2, 1, []), []), ((.bipush 6, 2, []), []), ((.bipush 8, 2, []), []), ((.invokestatic 114, 3, [49, 3]), []), ((.ifCond .ne 9, 3, [1441886]), []), ((.iload_n 2, 1, []), []), ((.bipush 11, 2, []), []), ((.if_icmp .lt 7, 3, [1441890]), []), ((.nop, 0, [0, 1441886]), [])]
def b_X3_widthOf_94 : List (ev_I × List (Nat × Nat)) := [((.nop, 0, [1, 0, 1, 2, 3, 4, 5]), []), ((.iconst 1, 1, []), []), ((.goto 4, 3, [1441891]), [])]
def b_X3_widthOf_98 : List (ev_I × List (Nat × Nat)) := [((.iload_n 3, 1, []), []), ((.nop, 0, [0, 1441891]), [])]
def b_X3_widthOf_99 : List (ev_I × List (Nat × Nat)) := [((.nop, 0, [1, 0, 1, 2, 3, 4, 5]), []), ((.ireturn, 1, []), [])]
def tb_X3_widthOf : List (Nat × List (ev_I × List (Nat × Nat))) := [(0, b_X3_widthOf_0), (14, b_X3_widthOf_14), (38, b_X3_widthOf_38), (42, b_X3_widthOf_42), (43, b_X3_widthOf_43), (69, b_X3_widthOf_69), (70, b_X3_widthOf_70), (77, b_X3_widthOf_77), (94, b_X3_widthOf_94), (98, b_X3_widthOf_98), (99, b_X3_widthOf_99)]
def b_X3_isInt_0 : List (ev_I × List (Nat × Nat)) := [((.lload_n 0, 1, []), []), ((.ldc2_w 324, 3, [0, 1, 2147483648]), []), ((.lcmp, 1, []), []), ((.ifCond .lt 15, 3, [1445908]), []), ((.lload_n 0, 1, []), []), ((.ldc2_w 326, 3, [0, 0, 2147483647]), []), ((.lcmp, 1, []), []), ((.ifCond .gt 7, 3, [1445908]), []), ((.iconst 1, 1, []), []), ((.goto 4, 3, [1445909]), [])]
def b_X3_isInt_20 : List (ev_I × List (Nat × Nat)) := [((.nop, 0, [1, 0, 1]), []), ((.iconst 0, 1, []), []), ((.nop, 0, [0, 1445909]), [])]
def b_X3_isInt_21 : List (ev_I × List (Nat × Nat)) := [((.nop, 0, [1, 0, 1]), []), ((.ireturn, 1, [5]), [])]
def tb_X3_isInt : List (Nat × List (ev_I × List (Nat × Nat))) := [(0, b_X3_isInt_0), (20, b_X3_isInt_20), (21, b_X3_isInt_21)]
def b_X3_byInts_0 : List (ev_I × List (Nat × Nat)) := [((.iload_n 1, 1, []), []), ((.bipush 12, 2, []), []), ((.if_icmp .ne 11, 3, [1449998]), []), ((.iload_n 2, 1, []), []), ((.i2l, 1, []), []), ((.iload_n 3, 1, []), []), ((.i2l, 1, []), []), ((.lmul, 1, []), []), ((.goto 8, 3, [1450003]), [])]
def b_X3_byInts_14 : List (ev_I × List (Nat × Nat)) := [((.iload_n 2, 1, []), []), ((.i2l, 1, []), []), ((.iload_n 3, 1, []), []), ((.i2l, 1, []), []), ((.ladd, 1, []), []), ((.nop, 0, [0, 1450003]), [])]
def b_X3_byInts_19 : List (ev_I × List (Nat × Nat)) := [((.nop, 0, [1, 4, 5]), []), ((.lstore 4, 2, []), []), ((.iload_n 1, 1, []), []), ((.tableswitch 134 0 10 #[58, 62, 66, 70, 82, 93, 104, 108, 112, 116, 118], 58, [1450140, 1450064, 1450068, 1450072, 1450076, 1450088, 1450099, 1450110, 1450114, 1450118, 1450122, 1450124]), [])]
def b_X3_byInts_80 : List (ev_I × List (Nat × Nat)) := [((.iload_n 2, 1, []), []), ((.iload_n 3, 1, []), []), ((.iadd, 1, []), []), ((.ireturn, 1, []), [])]
def b_X3_byInts_84 : List (ev_I × List (Nat × Nat)) := [((.iload_n 2, 1, []), []), ((.iload_n 3, 1, []), []), ((.isub, 1, []), []), ((.ireturn, 1, []), [])]
def b_X3_byInts_88 : List (ev_I × List (Nat × Nat)) := [((.iload_n 2, 1, []), []), ((.iload_n 3, 1, []), []), ((.imul, 1, []), []), ((.ireturn, 1, []), [])]
def b_X3_byInts_92 : List (ev_I × List (Nat × Nat)) := [((.iload_n 3, 1, []), []), ((.ifCond .ne 7, 3, [1450084]), []), ((.iconst 0, 1, []), []), ((.goto 6, 3, [1450087]), [])]
def b_X3_byInts_100 : List (ev_I × List (Nat × Nat)) := [((.iload_n 2, 1, []), []), ((.iload_n 3, 1, []), []), ((.irem, 1, []), []), ((.nop, 0, [0, 1450087]), [])]
def b_X3_byInts_103 : List (ev_I × List (Nat × Nat)) := [((.nop, 0, [1, 0, 1, 2, 3, 4, 5]), []), ((.ireturn, 1, []), [])]
def b_X3_byInts_104 : List (ev_I × List (Nat × Nat)) := [((.iload_n 2, 1, []), []), ((.iload_n 3, 1, []), []), ((.if_icmp .le 7, 3, [1450097]), []), ((.iload_n 2, 1, []), []), ((.goto 4, 3, [1450098]), [])]
def b_X3_byInts_113 : List (ev_I × List (Nat × Nat)) := [((.iload_n 3, 1, []), []), ((.nop, 0, [0, 1450098]), [])]
def b_X3_byInts_114 : List (ev_I × List (Nat × Nat)) := [((.nop, 0, [1, 0, 1, 2, 3, 4, 5]), []), ((.ireturn, 1, []), [])]
def b_X3_byInts_115 : List (ev_I × List (Nat × Nat)) := [((.iload_n 2, 1, []), []), ((.iload_n 3, 1, []), []), ((.if_icmp .ge 7, 3, [1450108]), []), ((.iload_n 2, 1, []), []), ((.goto 4, 3, [1450109]), [])]
def b_X3_byInts_124 : List (ev_I × List (Nat × Nat)) := [((.iload_n 3, 1, []), []), ((.nop, 0, [0, 1450109]), [])]
def b_X3_byInts_125 : List (ev_I × List (Nat × Nat)) := [((.nop, 0, [1, 0, 1, 2, 3, 4, 5]), []), ((.ireturn, 1, []), [])]
def b_X3_byInts_126 : List (ev_I × List (Nat × Nat)) := [((.iload_n 2, 1, []), []), ((.iload_n 3, 1, []), []), ((.iand, 1, []), []), ((.ireturn, 1, []), [])]
def b_X3_byInts_130 : List (ev_I × List (Nat × Nat)) := [((.iload_n 2, 1, []), []), ((.iload_n 3, 1, []), []), ((.ior, 1, []), []), ((.ireturn, 1, []), [])]
def b_X3_byInts_134 : List (ev_I × List (Nat × Nat)) := [((.iload_n 2, 1, []), []), ((.iload_n 3, 1, []), []), ((.ixor, 1, []), []), ((.ireturn, 1, []), [])]
def b_X3_byInts_138 : List (ev_I × List (Nat × Nat)) := [((.iload_n 2, 1, []), []), ((.ireturn, 1, []), [])]
def b_X3_byInts_140 : List (ev_I × List (Nat × Nat)) := [((.aload_n 0, 1, []), []), ((.iload_n 2, 1, []), []), ((.iload_n 3, 1, []), []), ((.if_icmp .gt 7, 3, [1450134]), []), ((.iconst 1, 1, []), []), ((.goto 4, 3, [1450135]), [])]
def b_X3_byInts_150 : List (ev_I × List (Nat × Nat)) := [((.iconst 0, 1, []), []), ((.nop, 0, [0, 1450135]), [])]
def b_X3_byInts_151 : List (ev_I × List (Nat × Nat)) := [((.nop, 0, [1, 0, 1, 3, 4, 5]), []), ((.putfield 331, 3, [0, 5, 39, 2]), []), ((.iload_n 2, 1, []), []), ((.ireturn, 1, []), [])]
def b_X3_byInts_156 : List (ev_I × List (Nat × Nat)) := [((.aload_n 0, 1, []), []), ((.lload 4, 2, []), []), ((.invokestatic 334, 3, [353, 1]), []), ((.ifCond .eq 7, 3, [1450153]), []), ((.iconst (-1), 1, []), []), ((.goto 4, 3, [1450154]), [])]
def b_X3_byInts_169 : List (ev_I × List (Nat × Nat)) := [((.iconst 2, 1, []), []), ((.nop, 0, [0, 1450154]), [])]
def b_X3_byInts_170 : List (ev_I × List (Nat × Nat)) := [((.nop, 0, [1, 0, 1, 2, 3]), []), ((.putfield 338, 3, [0, 0, 38, 2]), []), ((.lload 4, 2, []), []), ((.l2i, 1, []), []), ((.ireturn, 1, []), [])]
def tb_X3_byInts : List (Nat × List (ev_I × List (Nat × Nat))) := [(0, b_X3_byInts_0), (14, b_X3_byInts_14), (19, b_X3_byInts_19), (80, b_X3_byInts_80), (84, b_X3_byInts_84), (88, b_X3_byInts_88), (92, b_X3_byInts_92), (100, b_X3_byInts_100), (103, b_X3_byInts_103), (104, b_X3_byInts_104), (113, b_X3_byInts_113), (114, b_X3_byInts_114), (115, b_X3_byInts_115), (124, b_X3_byInts_124), (125, b_X3_byInts_125), (126, b_X3_byInts_126), (130, b_X3_byInts_130), (134, b_X3_byInts_134), (138, b_X3_byInts_138), (140, b_X3_byInts_140), (150, b_X3_byInts_150), (151, b_X3_byInts_151), (156, b_X3_byInts_156), (169, b_X3_byInts_169), (170, b_X3_byInts_170)]
def b_X3_byFloats_0 : List (ev_I × List (Nat × Nat)) := [((.iload_n 1, 1, []), []), ((.tableswitch 138 0 10 #[59, 67, 75, 83, 97, 109, 138, 138, 138, 138, 121], 59, [1454219, 1454140, 1454148, 1454156, 1454164, 1454178, 1454190, 1454219, 1454219, 1454219, 1454219, 1454202]), [])]
def b_X3_byFloats_60 : List (ev_I × List (Nat × Nat)) := [((.fload_n 2, 1, []), []), ((.fload_n 3, 1, []), []), ((.fadd, 1, []), []), ((.ldc_w 341, 3, [1, 1149239296]), []), ((.frem, 1, []), []), ((.freturn, 1, []), [])]
def b_X3_byFloats_68 : List (ev_I × List (Nat × Nat)) := [((.fload_n 2, 1, []), []), ((.fload_n 3, 1, []), []), ((.fsub, 1, []), []), ((.ldc_w 341, 3, [1, 1149239296]), []), ((.frem, 1, []), []), ((.freturn, 1, []), [])]
def b_X3_byFloats_76 : List (ev_I × List (Nat × Nat)) := [((.fload_n 2, 1, []), []), ((.fload_n 3, 1, []), []), ((.fmul, 1, []), []), ((.ldc_w 341, 3, [1, 1149239296]), []), ((.frem, 1, []), []), ((.freturn, 1, []), [])]
def b_X3_byFloats_84 : List (ev_I × List (Nat × Nat)) := [((.fload_n 3, 1, []), []), ((.fconst 0, 1, []), []), ((.fcmp .l, 1, []), []), ((.ifCond .ne 7, 3, [1454174]), []), ((.fconst 0, 1, []), []), ((.goto 6, 3, [1454177]), [])]
def b_X3_byFloats_94 : List (ev_I × List (Nat × Nat)) := [((.fload_n 2, 1, []), []), ((.fload_n 3, 1, []), []), ((.frem, 1, []), []), ((.nop, 0, [0, 1454177]), [])]
def b_X3_byFloats_97 : List (ev_I × List (Nat × Nat)) := [((.nop, 0, [1, 0, 1, 2, 3]), []), ((.freturn, 1, []), [])]
def b_X3_byFloats_98 : List (ev_I × List (Nat × Nat)) := [((.fload_n 2, 1, []), []), ((.fload_n 3, 1, []), []), ((.fcmp .l, 1, []), []), ((.ifCond .le 7, 3, [1454188]), []), ((.fload_n 2, 1, []), []), ((.goto 4, 3, [1454189]), [])]
def b_X3_byFloats_108 : List (ev_I × List (Nat × Nat)) := [((.fload_n 3, 1, []), []), ((.nop, 0, [0, 1454189]), [])]
def b_X3_byFloats_109 : List (ev_I × List (Nat × Nat)) := [((.nop, 0, [1, 0, 1, 2, 3]), []), ((.freturn, 1, []), [])]
def b_X3_byFloats_110 : List (ev_I × List (Nat × Nat)) := [((.fload_n 2, 1, []), []), ((.fload_n 3, 1, []), []), ((.fcmp .g, 1, []), []), ((.ifCond .ge 7, 3, [1454200]), []), ((.fload_n 2, 1, []), []), ((.goto 4, 3, [1454201]), [])]
def b_X3_byFloats_120 : List (ev_I × List (Nat × Nat)) := [((.fload_n 3, 1, []), []), ((.nop, 0, [0, 1454201]), [])]
def b_X3_byFloats_121 : List (ev_I × List (Nat × Nat)) := [((.nop, 0, [1, 0, 1, 2, 3]), []), ((.freturn, 1, []), [])]
def b_X3_byFloats_122 : List (ev_I × List (Nat × Nat)) := [((.aload_n 0, 1, []), []), ((.fload_n 2, 1, []), []), ((.fload_n 3, 1, []), []), ((.fcmp .g, 1, []), []), ((.ifCond .gt 7, 3, [1454213]), []), ((.iconst 1, 1, []), []), ((.goto 4, 3, [1454214]), [])]
def b_X3_byFloats_133 : List (ev_I × List (Nat × Nat)) := [((.iconst 0, 1, []), []), ((.nop, 0, [0, 1454214]), [])]
def b_X3_byFloats_134 : List (ev_I × List (Nat × Nat)) := [((.nop, 0, [1, 0, 1, 3]), []), ((.putfield 331, 3, [0, 5, 39, 2]), []), ((.fload_n 2, 1, []), []), ((.freturn, 1, []), [])]
def b_X3_byFloats_139 : List (ev_I × List (Nat × Nat)) := [((.nop, 0, [1, 0, 1, 3]), []), ((.fload_n 2, 1, []), []), ((.freturn, 1, []), [])]
def tb_X3_byFloats : List (Nat × List (ev_I × List (Nat × Nat))) := [(0, b_X3_byFloats_0), (60, b_X3_byFloats_60), (68, b_X3_byFloats_68), (76, b_X3_byFloats_76), (84, b_X3_byFloats_84), (94, b_X3_byFloats_94), (97, b_X3_byFloats_97), (98, b_X3_byFloats_98), (108, b_X3_byFloats_108), (109, b_X3_byFloats_109), (110, b_X3_byFloats_110), (120, b_X3_byFloats_120), (121, b_X3_byFloats_121), (122, b_X3_byFloats_122), (133, b_X3_byFloats_133), (134, b_X3_byFloats_134), (139, b_X3_byFloats_139)]
def b_X3_zeroed_0 : List (ev_I × List (Nat × Nat)) := [((.dload_n 0, 1, []), []), ((.dconst 0, 1, []), []), ((.dcmp .l, 1, []), []), ((.ifCond .ne 7, 3, [1458186]), []), ((.dconst 0, 1, []), []), ((.goto 4, 3, [1458187]), [])]
def b_X3_zeroed_10 : List (ev_I × List (Nat × Nat)) := [((.dload_n 0, 1, []), []), ((.nop, 0, [0, 1458187]), [])]
def b_X3_zeroed_11 : List (ev_I × List (Nat × Nat)) := [((.nop, 0, [1, 0, 1]), []), ((.dreturn, 1, []), [])]
def tb_X3_zeroed : List (Nat × List (ev_I × List (Nat × Nat))) := [(0, b_X3_zeroed_0), (10, b_X3_zeroed_10), (11, b_X3_zeroed_11)]
def b_X3_byDoubles_0 : List (ev_I × List (Nat × Nat)) := [((.iload_n 1, 1, []), []), ((.tableswitch 148 0 10 #[59, 68, 77, 86, 102, 116, 148, 148, 148, 148, 130], 59, [1462421, 1462332, 1462341, 1462350, 1462359, 1462375, 1462389, 1462421, 1462421, 1462421, 1462421, 1462403]), [])]
def b_X3_byDoubles_60 : List (ev_I × List (Nat × Nat)) := [((.dload_n 2, 1, []), []), ((.dload 4, 2, []), []), ((.dadd, 1, []), []), ((.ldc2_w 322, 3, [1, 4652218415073722368]), []), ((.drem, 1, []), []), ((.dreturn, 1, []), [])]
def b_X3_byDoubles_69 : List (ev_I × List (Nat × Nat)) := [((.dload_n 2, 1, []), []), ((.dload 4, 2, []), []), ((.dsub, 1, []), []), ((.ldc2_w 322, 3, [1, 4652218415073722368]), []), ((.drem, 1, []), []), ((.dreturn, 1, []), [])]
def b_X3_byDoubles_78 : List (ev_I × List (Nat × Nat)) := [((.dload_n 2, 1, []), []), ((.dload 4, 2, []), []), ((.dmul, 1, []), []), ((.ldc2_w 322, 3, [1, 4652218415073722368]), []), ((.drem, 1, []), []), ((.dreturn, 1, []), [])]
def b_X3_byDoubles_87 : List (ev_I × List (Nat × Nat)) := [((.dload 4, 2, []), []), ((.dconst 0, 1, []), []), ((.dcmp .l, 1, []), []), ((.ifCond .ne 7, 3, [1462370]), []), ((.dconst 0, 1, []), []), ((.goto 7, 3, [1462374]), [])]
def b_X3_byDoubles_98 : List (ev_I × List (Nat × Nat)) := [((.dload_n 2, 1, []), []), ((.dload 4, 2, []), []), ((.drem, 1, []), []), ((.nop, 0, [0, 1462374]), [])]
def b_X3_byDoubles_102 : List (ev_I × List (Nat × Nat)) := [((.nop, 0, [1, 0, 1, 2, 3, 4, 5]), []), ((.dreturn, 1, []), [])]
def b_X3_byDoubles_103 : List (ev_I × List (Nat × Nat)) := [((.dload_n 2, 1, []), []), ((.dload 4, 2, []), []), ((.dcmp .l, 1, []), []), ((.ifCond .le 7, 3, [1462386]), []), ((.dload_n 2, 1, []), []), ((.goto 5, 3, [1462388]), [])]
def b_X3_byDoubles_114 : List (ev_I × List (Nat × Nat)) := [((.dload 4, 2, []), []), ((.nop, 0, [0, 1462388]), [])]
def b_X3_byDoubles_116 : List (ev_I × List (Nat × Nat)) := [((.nop, 0, [1, 0, 1, 2, 3, 4, 5]), []), ((.dreturn, 1, []), [])]
def b_X3_byDoubles_117 : List (ev_I × List (Nat × Nat)) := [((.dload_n 2, 1, []), []), ((.dload 4, 2, []), []), ((.dcmp .g, 1, []), []), ((.ifCond .ge 7, 3, [1462400]), []), ((.dload_n 2, 1, []), []), ((.goto 5, 3, [1462402]), [])]
def b_X3_byDoubles_128 : List (ev_I × List (Nat × Nat)) := [((.dload 4, 2, []), []), ((.nop, 0, [0, 1462402]), [])]
def b_X3_byDoubles_130 : List (ev_I × List (Nat × Nat)) := [((.nop, 0, [1, 0, 1, 2, 3, 4, 5]), []), ((.dreturn, 1, []), [])]
def b_X3_byDoubles_131 : List (ev_I × List (Nat × Nat)) := [((.aload_n 0, 1, []), []), ((.dload_n 2, 1, []), []), ((.dload 4, 2, []), []), ((.dcmp .g, 1, []), []), ((.ifCond .gt 7, 3, [1462415]), []), ((.iconst 1, 1, []), []), ((.goto 4, 3, [1462416]), [])]
def b_X3_byDoubles_143 : List (ev_I × List (Nat × Nat)) := [((.iconst 0, 1, []), []), ((.nop, 0, [0, 1462416]), [])]
def b_X3_byDoubles_144 : List (ev_I × List (Nat × Nat)) := [((.nop, 0, [1, 0, 1, 4, 5]), []), ((.putfield 331, 3, [0, 5, 39, 2]), []), ((.dload_n 2, 1, []), []), ((.dreturn, 1, []), [])]
def b_X3_byDoubles_149 : List (ev_I × List (Nat × Nat)) := [((.nop, 0, [1, 0, 1, 4, 5]), []), ((.dload_n 2, 1, []), []), ((.dreturn, 1, []), [])]
def tb_X3_byDoubles : List (Nat × List (ev_I × List (Nat × Nat))) := [(0, b_X3_byDoubles_0), (60, b_X3_byDoubles_60), (69, b_X3_byDoubles_69), (78, b_X3_byDoubles_78), (87, b_X3_byDoubles_87), (98, b_X3_byDoubles_98), (102, b_X3_byDoubles_102), (103, b_X3_byDoubles_103), (114, b_X3_byDoubles_114), (116, b_X3_byDoubles_116), (117, b_X3_byDoubles_117), (128, b_X3_byDoubles_128), (130, b_X3_byDoubles_130), (131, b_X3_byDoubles_131), (143, b_X3_byDoubles_143), (144, b_X3_byDoubles_144), (149, b_X3_byDoubles_149)]
def b_X3_does_0 : List (ev_I × List (Nat × Nat)) := [((.aload_n 0, 1, []), []), ((.iconst 0, 1, []), []), ((.putfield 331, 3, [0, 5, 39, 2]), []), ((.aload_n 0, 1, []), []), ((.getfield 26, 3, [0, 4, 8, 2]), []), ((.iload_n 1, 1, []), []), ((.iaload, 1, []), []), ((.istore 6, 2, []), []), ((.aload_n 0, 1, []), []), ((.iload_n 1, 1, []), []), ((.invokevirtual 342, 3, [2, 2, 352]), []), ((.lookupswitch 55 #[(1, 26), (2, 39)], 26, [1466441, 1466412, 1466425]), [])]
def b_X3_does_44 : List (ev_I × List (Nat × Nat)) := [((.aload_n 0, 1, []), []), ((.iload 6, 2, []), []), ((.dload_n 2, 1, []), []), ((.d2i, 1, []), []), ((.dload 4, 2, []), []), ((.d2i, 1, []), []), ((.invokevirtual 345, 3, [4, 2, 354]), []), ((.i2d, 1, []), []), ((.dreturn, 1, []), [])]
def b_X3_does_57 : List (ev_I × List (Nat × Nat)) := [((.aload_n 0, 1, []), []), ((.iload 6, 2, []), []), ((.dload_n 2, 1, []), []), ((.d2f, 1, []), []), ((.dload 4, 2, []), []), ((.d2f, 1, []), []), ((.invokevirtual 348, 3, [4, 2, 355]), []), ((.f2d, 1, []), []), ((.invokestatic 118, 3, [356, 1]), []), ((.dreturn, 1, []), [])]
def b_X3_does_73 : List (ev_I × List (Nat × Nat)) := [((.aload_n 0, 1, []), []), ((.iload 6, 2, []), []), ((.dload_n 2, 1, []), []), ((.dload 4, 2, []), []), ((.invokevirtual 352, 3, [4, 2, 357]), []), ((.invokestatic 118, 3, [356, 1]), []), ((.dreturn, 1, []), [])]
def tb_X3_does : List (Nat × List (ev_I × List (Nat × Nat))) := [(0, b_X3_does_0), (44, b_X3_does_44), (57, b_X3_does_57), (73, b_X3_does_73)]
def b_X3_castTo_0 : List (ev_I × List (Nat × Nat)) := [((.iload_n 0, 1, []), []), ((.tableswitch 43 0 2 #[27, 32, 36], 27, [1470508, 1470492, 1470497, 1470501]), [])]
def b_X3_castTo_28 : List (ev_I × List (Nat × Nat)) := [((.dload_n 1, 1, []), []), ((.d2i, 1, []), []), ((.i2s, 1, []), []), ((.i2d, 1, []), []), ((.dreturn, 1, []), [])]
def b_X3_castTo_33 : List (ev_I × List (Nat × Nat)) := [((.dload_n 1, 1, []), []), ((.d2i, 1, []), []), ((.i2d, 1, []), []), ((.dreturn, 1, []), [])]
def b_X3_castTo_37 : List (ev_I × List (Nat × Nat)) := [((.dload_n 1, 1, []), []), ((.d2f, 1, []), []), ((.f2d, 1, []), []), ((.invokestatic 118, 3, [356, 1]), []), ((.dreturn, 1, []), [])]
def b_X3_castTo_44 : List (ev_I × List (Nat × Nat)) := [((.dload_n 1, 1, []), []), ((.dreturn, 1, []), [])]
def tb_X3_castTo : List (Nat × List (ev_I × List (Nat × Nat))) := [(0, b_X3_castTo_0), (28, b_X3_castTo_28), (33, b_X3_castTo_33), (37, b_X3_castTo_37), (44, b_X3_castTo_44)]
def b_X3_writes_0 : List (ev_I × List (Nat × Nat)) := [((.aload_n 0, 1, []), []), ((.getfield 359, 3, [0, 5, 33, 2]), []), ((.ifCond .eq 15, 3, [1474579]), []), ((.aload_n 0, 1, []), []), ((.getfield 68, 3, [0, 4, 29, 2]), []), ((.iload_n 1, 1, []), []), ((.bipush 24, 2, []), []), ((.idiv, 1, []), []), ((.iaload, 1, []), []), ((.goto 4, 3, [1474580]), [])]
def b_X3_writes_19 : List (ev_I × List (Nat × Nat)) := [((.iconst (-1), 1, []), []), ((.nop, 0, [0, 1474580]), [])]
def b_X3_writes_20 : List (ev_I × List (Nat × Nat)) := [((.nop, 0, [1, 5]), []), ((.istore 5, 2, []), []), ((.iload 5, 2, []), []), ((.iconst 3, 1, []), []), ((.if_icmp .ne 32, 3, [1474617]), []), ((.aload_n 0, 1, []), []), ((.getfield 74, 3, [0, 4, 31, 2]), []), ((.sipush 144, 3, []), []), ((.iload_n 2, 1, []), []), ((.imul, 1, []), []), ((.iload_n 1, 1, []), []), ((.iadd, 1, []), []), ((.dload_n 3, 1, []), []), ((.dastore, 1, []), []), ((.aload_n 0, 1, []), []), ((.getfield 77, 3, [0, 4, 32, 2]), []), ((.sipush 144, 3, []), []), ((.iload_n 2, 1, []), []), ((.imul, 1, []), []), ((.iload_n 1, 1, []), []), ((.iadd, 1, []), []), ((.iconst 1, 1, []), []), ((.bastore, 1, []), []), ((.goto 42, 3, [1474656]), [])]
def b_X3_writes_57 : List (ev_I × List (Nat × Nat)) := [((.aload_n 0, 1, []), []), ((.getfield 16, 3, [0, 4, 2, 2]), []), ((.iload_n 1, 1, []), []), ((.dload_n 3, 1, []), []), ((.dastore, 1, []), []), ((.aload_n 0, 1, []), []), ((.getfield 20, 3, [0, 4, 3, 2]), []), ((.iload_n 1, 1, []), []), ((.iload 5, 2, []), []), ((.iconst 2, 1, []), []), ((.if_icmp .ne 22, 3, [1474654]), []), ((.aload_n 0, 1, []), []), ((.getfield 20, 3, [0, 4, 3, 2]), []), ((.iload_n 1, 1, []), []), ((.iaload, 1, []), []), ((.iload_n 2, 1, []), []), ((.if_icmp .le 12, 3, [1474654]), []), ((.aload_n 0, 1, []), []), ((.getfield 20, 3, [0, 4, 3, 2]), []), ((.iload_n 1, 1, []), []), ((.iaload, 1, []), []), ((.goto 4, 3, [1474655]), [])]
def b_X3_writes_94 : List (ev_I × List (Nat × Nat)) := [((.nop, 0, [1, 0, 1, 3, 4, 5]), []), ((.iload_n 2, 1, []), []), ((.nop, 0, [0, 1474655]), [])]
def b_X3_writes_95 : List (ev_I × List (Nat × Nat)) := [((.nop, 0, [1, 0, 1, 2, 3, 4, 5]), []), ((.iastore, 1, []), []), ((.nop, 0, [0, 1474656]), [])]
def b_X3_writes_96 : List (ev_I × List (Nat × Nat)) := [((.nop, 0, [1, 0, 1, 2, 3, 4, 5]), []), ((.return_, 1, []), [])]
def tb_X3_writes : List (Nat × List (ev_I × List (Nat × Nat))) := [(0, b_X3_writes_0), (19, b_X3_writes_19), (20, b_X3_writes_20), (57, b_X3_writes_57), (94, b_X3_writes_94), (95, b_X3_writes_95), (96, b_X3_writes_96)]
def b_X3_item_0 : List (ev_I × List (Nat × Nat)) := [((.aload_n 0, 1, []), []), ((.iconst (-1), 1, []), []), ((.putfield 338, 3, [0, 0, 38, 2]), []), ((.aload_n 0, 1, []), []), ((.iconst 3, 1, []), []), ((.iload_n 1, 1, []), []), ((.imul, 1, []), []), ((.iconst 1, 1, []), []), ((.iadd, 1, []), []), ((.iload_n 2, 1, []), []), ((.iload_n 3, 1, []), []), ((.invokevirtual 362, 3, [4, 2, 350]), []), ((.dstore 4, 2, []), []), ((.aload_n 0, 1, []), []), ((.getfield 338, 3, [0, 0, 38, 2]), []), ((.iconst (-1), 1, []), []), ((.if_icmp .ne 17, 3, [1478696]), []), ((.aload_n 0, 1, []), []), ((.iconst 3, 1, []), []), ((.iload_n 1, 1, []), []), ((.imul, 1, []), []), ((.iconst 2, 1, []), []), ((.iadd, 1, []), []), ((.iload_n 2, 1, []), []), ((.iload_n 3, 1, []), []), ((.invokevirtual 362, 3, [4, 2, 350]), []), ((.goto 4, 3, [1478697]), [])]
def b_X3_item_40 : List (ev_I × List (Nat × Nat)) := [((.dconst 0, 1, []), []), ((.nop, 0, [0, 1478697]), [])]
def b_X3_item_41 : List (ev_I × List (Nat × Nat)) := [((.nop, 0, [1, 6, 7, 8, 9, 10]), []), ((.dstore 6, 2, []), []), ((.aload_n 0, 1, []), []), ((.aload_n 0, 1, []), []), ((.getfield 338, 3, [0, 0, 38, 2]), []), ((.iconst (-1), 1, []), []), ((.if_icmp .ne 15, 3, [1478720]), []), ((.aload_n 0, 1, []), []), ((.iconst 3, 1, []), []), ((.iload_n 1, 1, []), []), ((.imul, 1, []), []), ((.iload_n 2, 1, []), []), ((.iload_n 3, 1, []), []), ((.invokevirtual 356, 3, [4, 2, 349]), []), ((.goto 7, 3, [1478724]), [])]
def b_X3_item_64 : List (ev_I × List (Nat × Nat)) := [((.aload_n 0, 1, []), []), ((.getfield 338, 3, [0, 0, 38, 2]), []), ((.nop, 0, [0, 1478724]), [])]
def b_X3_item_68 : List (ev_I × List (Nat × Nat)) := [((.nop, 0, [1, 8, 9, 10]), []), ((.putfield 338, 3, [0, 0, 38, 2]), []), ((.aload_n 0, 1, []), []), ((.getfield 338, 3, [0, 0, 38, 2]), []), ((.iconst (-1), 1, []), []), ((.if_icmp .ne 15, 3, [1478747]), []), ((.aload_n 0, 1, []), []), ((.iload_n 1, 1, []), []), ((.dload 4, 2, []), []), ((.dload 6, 2, []), []), ((.invokevirtual 366, 3, [4, 2, 358]), []), ((.goto 4, 3, [1478748]), [])]
def b_X3_item_91 : List (ev_I × List (Nat × Nat)) := [((.dconst 0, 1, []), []), ((.nop, 0, [0, 1478748]), [])]
def b_X3_item_92 : List (ev_I × List (Nat × Nat)) := [((.nop, 0, [1, 4, 5, 6, 7, 8, 9, 10]), []), ((.dstore 8, 2, []), []), ((.aload_n 0, 1, []), []), ((.getfield 338, 3, [0, 0, 38, 2]), []), ((.iconst (-1), 1, []), []), ((.if_icmp .eq 18, 3, [1478773]), []), ((.aload_n 0, 1, []), []), ((.getfield 81, 3, [0, 4, 35, 2]), []), ((.aload_n 0, 1, []), []), ((.getfield 338, 3, [0, 0, 38, 2]), []), ((.dup2, 1, []), []), ((.iaload, 1, []), []), ((.iconst 1, 1, []), []), ((.iadd, 1, []), []), ((.iastore, 1, []), []), ((.iconst 0, 1, []), []), ((.ireturn, 1, [5]), [])]
def b_X3_item_117 : List (ev_I × List (Nat × Nat)) := [((.aload_n 0, 1, []), []), ((.getfield 331, 3, [0, 5, 39, 2]), []), ((.ifCond .ne 51, 3, [1478828]), []), ((.bipush 24, 2, []), []), ((.aload_n 0, 1, []), []), ((.getfield 41, 3, [0, 4, 13, 2]), []), ((.iconst 3, 1, []), []), ((.iload_n 1, 1, []), []), ((.imul, 1, []), []), ((.iaload, 1, []), []), ((.imul, 1, []), []), ((.aload_n 0, 1, []), []), ((.iconst 3, 1, []), []), ((.iload_n 1, 1, []), []), ((.imul, 1, []), []), ((.iload_n 2, 1, []), []), ((.iload_n 3, 1, []), []), ((.invokevirtual 200, 3, [4, 2, 194]), []), ((.iadd, 1, []), []), ((.istore 10, 2, []), []), ((.aload_n 0, 1, []), []), ((.iload 10, 2, []), []), ((.iload_n 2, 1, []), []), ((.aload_n 0, 1, []), []), ((.getfield 7, 3, [0, 4, 0, 2]), []), ((.aload_n 0, 1, []), []), ((.getfield 41, 3, [0, 4, 13, 2]), []), ((.iconst 3, 1, []), []), ((.iload_n 1, 1, []), []), ((.imul, 1, []), []), ((.iaload, 1, []), []), ((.iaload, 1, []), []), ((.dload 8, 2, []), []), ((.invokestatic 369, 3, [359, 2]), []), ((.invokevirtual 373, 3, [4, 2, 360]), []), ((.nop, 0, [0, 1478828]), [])]
def b_X3_item_172 : List (ev_I × List (Nat × Nat)) := [((.nop, 0, [1, 1, 2, 3, 4, 5, 6, 7, 8, 9, 10]), []), ((.aload_n 0, 1, []), []), ((.dup, 1, []), []), ((.getfield 377, 3, [0, 0, 34, 2]), []), ((.iconst 1, 1, []), []), ((.iadd, 1, []), []), ((.putfield 377, 3, [0, 0, 34, 2]), []), ((.iconst 1, 1, []), []), ((.ireturn, 1, [5]), [])]
def tb_X3_item : List (Nat × List (ev_I × List (Nat × Nat))) := [(0, b_X3_item_0), (40, b_X3_item_40), (41, b_X3_item_41), (64, b_X3_item_64), (68, b_X3_item_68), (91, b_X3_item_91), (92, b_X3_item_92), (117, b_X3_item_117), (172, b_X3_item_172)]
def b_X3_steps_0 : List (ev_I × List (Nat × Nat)) := [((.aload_n 0, 1, []), []), ((.getfield 87, 3, [0, 4, 40, 2]), []), ((.iload_n 1, 1, []), []), ((.iaload, 1, []), []), ((.bipush 10, 2, []), []), ((.idiv, 1, []), []), ((.istore_n 2, 1, []), []), ((.aload_n 0, 1, []), []), ((.getfield 87, 3, [0, 4, 40, 2]), []), ((.iload_n 1, 1, []), []), ((.iaload, 1, []), []), ((.bipush 10, 2, []), []), ((.irem, 1, []), []), ((.istore_n 3, 1, []), []), ((.aload_n 0, 1, []), []), ((.iload_n 2, 1, []), []), ((.iload_n 1, 1, []), []), ((.iload_n 3, 1, []), []), ((.invokevirtual 386, 3, [4, 2, 361]), []), ((.istore 4, 2, []), []), ((.aload_n 0, 1, []), []), ((.getfield 87, 3, [0, 4, 40, 2]), []), ((.iload_n 1, 1, []), []), ((.iload 4, 2, []), []), ((.ifCond .ne 7, 3, [1482795]), []), ((.iconst (-1), 1, []), []), ((.goto 34, 3, [1482826]), [])]
def b_X3_steps_43 : List (ev_I × List (Nat × Nat)) := [((.iload_n 3, 1, []), []), ((.iconst 1, 1, []), []), ((.iadd, 1, []), []), ((.aload_n 0, 1, []), []), ((.getfield 29, 3, [0, 4, 9, 2]), []), ((.iload_n 2, 1, []), []), ((.iaload, 1, []), []), ((.if_icmp .ge 14, 3, [1482818]), []), ((.aload_n 0, 1, []), []), ((.getfield 87, 3, [0, 4, 40, 2]), []), ((.iload_n 1, 1, []), []), ((.iaload, 1, []), []), ((.iconst 1, 1, []), []), ((.iadd, 1, []), []), ((.goto 11, 3, [1482826]), [])]
def b_X3_steps_66 : List (ev_I × List (Nat × Nat)) := [((.aload_n 0, 1, []), []), ((.iload_n 2, 1, []), []), ((.iconst 1, 1, []), []), ((.iadd, 1, []), []), ((.iload_n 1, 1, []), []), ((.invokevirtual 383, 3, [3, 2, 347]), []), ((.nop, 0, [0, 1482826]), [])]
def b_X3_steps_74 : List (ev_I × List (Nat × Nat)) := [((.nop, 0, [1, 2, 3, 4]), []), ((.iastore, 1, []), []), ((.aload_n 0, 1, []), []), ((.getfield 87, 3, [0, 4, 40, 2]), []), ((.iload_n 1, 1, []), []), ((.iaload, 1, []), []), ((.iconst (-1), 1, []), []), ((.if_icmp .ne 23, 3, [1482857]), []), ((.aload_n 0, 1, []), []), ((.getfield 84, 3, [0, 4, 36, 2]), []), ((.aload_n 0, 1, []), []), ((.getfield 380, 3, [0, 0, 37, 2]), []), ((.iload_n 1, 1, []), []), ((.iastore, 1, []), []), ((.aload_n 0, 1, []), []), ((.dup, 1, []), []), ((.getfield 380, 3, [0, 0, 37, 2]), []), ((.iconst 1, 1, []), []), ((.iadd, 1, []), []), ((.putfield 380, 3, [0, 0, 37, 2]), []), ((.nop, 0, [0, 1482857]), [])]
def b_X3_steps_105 : List (ev_I × List (Nat × Nat)) := [((.nop, 0, [1, 0, 1, 2, 3, 4]), []), ((.return_, 1, []), [])]
def tb_X3_steps : List (Nat × List (ev_I × List (Nat × Nat))) := [(0, b_X3_steps_0), (43, b_X3_steps_43), (66, b_X3_steps_66), (74, b_X3_steps_74), (105, b_X3_steps_105)]
def b_X3_runNow_0 : List (ev_I × List (Nat × Nat)) := [((.aload_n 0, 1, []), []), ((.iconst 0, 1, []), []), ((.putfield 359, 3, [0, 5, 33, 2]), []), ((.aload_n 0, 1, []), []), ((.invokevirtual 389, 3, [1, 2, 348]), []), ((.iconst 0, 1, []), []), ((.istore_n 1, 1, []), []), ((.nop, 0, [0, 1486859]), [])]
def b_X3_runNow_11 : List (ev_I × List (Nat × Nat)) := [((.iload_n 1, 1, []), []), ((.aload_n 0, 1, []), []), ((.getfield 154, 3, [0, 0, 6, 2]), []), ((.if_icmp .ge 27, 3, [1486891]), []), ((.nop, 0, [0, 1486867]), [])]
def b_X3_runNow_19 : List (ev_I × List (Nat × Nat)) := [((.aload_n 0, 1, []), []), ((.getfield 87, 3, [0, 4, 40, 2]), []), ((.iload_n 1, 1, []), []), ((.iaload, 1, []), []), ((.iconst (-1), 1, []), []), ((.if_icmp .eq 11, 3, [1486885]), []), ((.aload_n 0, 1, []), []), ((.iload_n 1, 1, []), []), ((.invokevirtual 392, 3, [2, 2, 362]), []), ((.goto (-15), 3, [1486867]), [])]
def b_X3_runNow_37 : List (ev_I × List (Nat × Nat)) := [((.iinc 1 1, 3, []), []), ((.goto (-29), 3, [1486859]), [])]
def b_X3_runNow_43 : List (ev_I × List (Nat × Nat)) := [((.aload_n 0, 1, []), []), ((.getfield 377, 3, [0, 0, 34, 2]), []), ((.ireturn, 1, []), [])]
def tb_X3_runNow : List (Nat × List (ev_I × List (Nat × Nat))) := [(0, b_X3_runNow_0), (11, b_X3_runNow_11), (19, b_X3_runNow_19), (37, b_X3_runNow_37), (43, b_X3_runNow_43)]
def b_X3_run_0 : List (ev_I × List (Nat × Nat)) := [((.aload_n 0, 1, []), []), ((.invokevirtual 394, 3, [1, 2, 363]), []), ((.ireturn, 1, []), [])]
def tb_X3_run : List (Nat × List (ev_I × List (Nat × Nat))) := [(0, b_X3_run_0)]
def b_X0_isTwo_0 : List (ev_I × List (Nat × Nat)) := [((.iload_n 0, 1, []), []), ((.i2l, 1, []), []), ((.lconst 0, 1, []), []), ((.lconst 1, 1, []), []), ((.invokestatic 90, 3, [43, 3]), []), ((.ireturn, 1, [5]), [])]
def tb_X0_isTwo : List (Nat × List (ev_I × List (Nat × Nat))) := [(0, b_X0_isTwo_0)]
def b_X0_isMix_0 : List (ev_I × List (Nat × Nat)) := [((.iload_n 0, 1, []), []), ((.i2l, 1, []), []), ((.lconst 1, 1, []), []), ((.ldc2_w 110, 3, [0, 0, 4]), []), ((.invokestatic 90, 3, [43, 3]), []), ((.ifCond .eq 38, 3, [1499183]), []), ((.iload_n 1, 1, []), []), ((.i2l, 1, []), []), ((.lconst 0, 1, []), []), ((.ldc2_w 224, 3, [0, 0, 2]), []), ((.invokestatic 90, 3, [43, 3]), []), ((.ifCond .eq 26, 3, [1499183]), []), ((.iload_n 2, 1, []), []), ((.i2l, 1, []), []), ((.lconst 0, 1, []), []), ((.ldc2_w 642, 3, [0, 0, 63]), []), ((.invokestatic 90, 3, [43, 3]), []), ((.ifCond .eq 14, 3, [1499183]), []), ((.iload_n 3, 1, []), []), ((.invokestatic 644, 3, [365, 1]), []), ((.ifCond .eq 7, 3, [1499183]), []), ((.iconst 1, 1, []), []), ((.goto 4, 3, [1499184]), [])]
def b_X0_isMix_47 : List (ev_I × List (Nat × Nat)) := [((.nop, 0, [1, 0, 1, 2, 3]), []), ((.iconst 0, 1, []), []), ((.nop, 0, [0, 1499184]), [])]
def b_X0_isMix_48 : List (ev_I × List (Nat × Nat)) := [((.nop, 0, [1, 0, 1, 2, 3]), []), ((.ireturn, 1, [5]), [])]
def tb_X0_isMix : List (Nat × List (ev_I × List (Nat × Nat))) := [(0, b_X0_isMix_0), (47, b_X0_isMix_47), (48, b_X0_isMix_48)]
def b_X0_serialRows_0 : List (ev_I × List (Nat × Nat)) := [((.iconst 0, 1, []), []), ((.istore_n 1, 1, []), []), ((.iconst 0, 1, []), []), ((.istore_n 2, 1, []), []), ((.nop, 0, [0, 1503236]), [])]
def b_X0_serialRows_4 : List (ev_I × List (Nat × Nat)) := [((.iload_n 2, 1, []), []), ((.bipush 6, 2, []), []), ((.if_icmp .ge 26, 3, [1503265]), []), ((.iload_n 1, 1, []), []), ((.aload_n 0, 1, []), []), ((.iload_n 2, 1, []), []), ((.invokevirtual 502, 3, [2, 1, 272]), []), ((.iconst 4, 1, []), []), ((.if_icmp .ne 7, 3, [1503256]), []), ((.iconst 1, 1, []), []), ((.goto 4, 3, [1503257]), [])]
def b_X0_serialRows_24 : List (ev_I × List (Nat × Nat)) := [((.iconst 0, 1, []), []), ((.nop, 0, [0, 1503257]), [])]
def b_X0_serialRows_25 : List (ev_I × List (Nat × Nat)) := [((.nop, 0, [1, 1]), []), ((.iadd, 1, []), []), ((.istore_n 1, 1, []), []), ((.iinc 2 1, 3, []), []), ((.goto (-26), 3, [1503236]), [])]
def b_X0_serialRows_33 : List (ev_I × List (Nat × Nat)) := [((.iload_n 1, 1, []), []), ((.ireturn, 1, []), [])]
def tb_X0_serialRows : List (Nat × List (ev_I × List (Nat × Nat))) := [(0, b_X0_serialRows_0), (4, b_X0_serialRows_4), (24, b_X0_serialRows_24), (25, b_X0_serialRows_25), (33, b_X0_serialRows_33)]
def b_X0_isParallel_0 : List (ev_I × List (Nat × Nat)) := [((.aload_n 0, 1, []), []), ((.invokevirtual 449, 3, [1, 1, 240]), []), ((.aload_n 0, 1, []), []), ((.invokevirtual 647, 3, [1, 1, 367]), []), ((.ifCond .ne 7, 3, [1507343]), []), ((.iconst 1, 1, []), []), ((.goto 4, 3, [1507344]), [])]
def b_X0_isParallel_15 : List (ev_I × List (Nat × Nat)) := [((.iconst 0, 1, []), []), ((.nop, 0, [0, 1507344]), [])]
def b_X0_isParallel_16 : List (ev_I × List (Nat × Nat)) := [((.nop, 0, [1, 0]), []), ((.ireturn, 1, [5]), [])]
def tb_X0_isParallel : List (Nat × List (ev_I × List (Nat × Nat))) := [(0, b_X0_isParallel_0), (15, b_X0_isParallel_15), (16, b_X0_isParallel_16)]
def b_X0_dealOf_0 : List (ev_I × List (Nat × Nat)) := [((.iload_n 1, 1, []), []), ((.iconst 1, 1, []), []), ((.if_icmp .eq 10, 3, [1511436]), []), ((.iload_n 2, 1, []), []), ((.invokedynamic 578, 5, [1, 140, 1]), []), ((.areturn, 1, []), [])]
def b_X0_dealOf_12 : List (ev_I × List (Nat × Nat)) := [((.aload_n 0, 1, []), []), ((.getfield 173, 3, [0, 0, 4, 1]), []), ((.iload_n 2, 1, []), []), ((.iadd, 1, []), []), ((.iconst 1, 1, []), []), ((.isub, 1, []), []), ((.iload_n 2, 1, []), []), ((.idiv, 1, []), []), ((.istore_n 3, 1, []), []), ((.iload_n 3, 1, []), []), ((.invokedynamic 582, 5, [1, 141, 1]), []), ((.areturn, 1, []), [])]
def tb_X0_dealOf : List (Nat × List (ev_I × List (Nat × Nat))) := [(0, b_X0_dealOf_0), (12, b_X0_dealOf_12)]
def b_X0_lambda_dealOf_6_0 : List (ev_I × List (Nat × Nat)) := [((.iload_n 1, 1, []), []), ((.iload_n 0, 1, []), []), ((.irem, 1, []), []), ((.ireturn, 1, []), [])]
def tb_X0_lambda_dealOf_6 : List (Nat × List (ev_I × List (Nat × Nat))) := [(0, b_X0_lambda_dealOf_6_0)]
def b_X0_lambda_dealOf_7_0 : List (ev_I × List (Nat × Nat)) := [((.iload_n 1, 1, []), []), ((.iload_n 0, 1, []), []), ((.idiv, 1, []), []), ((.ireturn, 1, []), [])]
def tb_X0_lambda_dealOf_7 : List (Nat × List (ev_I × List (Nat × Nat))) := [(0, b_X0_lambda_dealOf_7_0)]
def b_X0_next_0 : List (ev_I × List (Nat × Nat)) := [((.iconst 0, 1, []), []), ((.istore 4, 2, []), []), ((.nop, 0, [0, 1523715]), [])]
def b_X0_next_3 : List (ev_I × List (Nat × Nat)) := [((.nop, 0, [1, 5]), []), ((.iload 4, 2, []), []), ((.aload_n 0, 1, []), []), ((.getfield 173, 3, [0, 0, 4, 1]), []), ((.if_icmp .ge 62, 3, [1523783]), []), ((.iload_n 3, 1, []), []), ((.ifCond .eq 15, 3, [1523740]), []), ((.aload_n 0, 1, []), []), ((.getfield 173, 3, [0, 0, 4, 1]), []), ((.iconst 1, 1, []), []), ((.isub, 1, []), []), ((.iload 4, 2, []), []), ((.isub, 1, []), []), ((.goto 5, 3, [1523742]), [])]
def b_X0_next_28 : List (ev_I × List (Nat × Nat)) := [((.iload 4, 2, []), []), ((.nop, 0, [0, 1523742]), [])]
def b_X0_next_30 : List (ev_I × List (Nat × Nat)) := [((.nop, 0, [1, 5]), []), ((.istore 5, 2, []), []), ((.aload_n 2, 1, []), []), ((.iload 5, 2, []), []), ((.invokeinterface 583 2, 5, [1, 2, 0, 140, 141]), []), ((.iload_n 1, 1, []), []), ((.if_icmp .ne 24, 3, [1523777]), []), ((.aload_n 0, 1, []), []), ((.getfield 68, 3, [0, 4, 12, 1]), []), ((.iload 5, 2, []), []), ((.aaload, 1, []), []), ((.invokevirtual 566, 3, [1, 10, 295]), []), ((.ifCond .eq 11, 3, [1523777]), []), ((.aload_n 0, 1, []), []), ((.getfield 68, 3, [0, 4, 12, 1]), []), ((.iload 5, 2, []), []), ((.aaload, 1, []), []), ((.areturn, 1, []), [])]
def b_X0_next_65 : List (ev_I × List (Nat × Nat)) := [((.nop, 0, [1, 5]), []), ((.iinc 4 1, 3, []), []), ((.goto (-65), 3, [1523715]), [])]
def b_X0_next_71 : List (ev_I × List (Nat × Nat)) := [((.aconst_null, 1, []), []), ((.areturn, 1, []), [])]
def tb_X0_next : List (Nat × List (ev_I × List (Nat × Nat))) := [(0, b_X0_next_0), (3, b_X0_next_3), (28, b_X0_next_28), (30, b_X0_next_30), (65, b_X0_next_65), (71, b_X0_next_71)]
def b_X0_gathererOf_0 : List (ev_I × List (Nat × Nat)) := [((.iconst 0, 1, []), []), ((.istore_n 2, 1, []), []), ((.nop, 0, [0, 1527810]), [])]
def b_X0_gathererOf_2 : List (ev_I × List (Nat × Nat)) := [((.iload_n 2, 1, []), []), ((.aload_n 0, 1, []), []), ((.getfield 34, 3, [0, 4, 3, 1]), []), ((.invokevirtual 208, 3, [1, 18, 117]), []), ((.if_icmp .ge 43, 3, [1527861]), []), ((.aload_n 0, 1, []), []), ((.getfield 34, 3, [0, 4, 3, 1]), []), ((.iload_n 2, 1, []), []), ((.invokevirtual 230, 3, [2, 18, 133]), []), ((.checkcast 209, 3, [1, 5]), []), ((.iconst 0, 1, []), []), ((.invokevirtual 233, 3, [2, 5, 134]), []), ((.getfield 237, 3, [1, 0, 0, 6]), []), ((.iload_n 1, 1, []), []), ((.if_icmp .ne 15, 3, [1527855]), []), ((.aload_n 0, 1, []), []), ((.getfield 34, 3, [0, 4, 3, 1]), []), ((.iload_n 2, 1, []), []), ((.invokevirtual 230, 3, [2, 18, 133]), []), ((.checkcast 209, 3, [1, 5]), []), ((.areturn, 1, []), [])]
def b_X0_gathererOf_47 : List (ev_I × List (Nat × Nat)) := [((.iinc 2 1, 3, []), []), ((.goto (-48), 3, [1527810]), [])]
def b_X0_gathererOf_53 : List (ev_I × List (Nat × Nat)) := [((.aconst_null, 1, []), []), ((.areturn, 1, []), [])]
def tb_X0_gathererOf : List (Nat × List (ev_I × List (Nat × Nat))) := [(0, b_X0_gathererOf_0), (2, b_X0_gathererOf_2), (47, b_X0_gathererOf_47), (53, b_X0_gathererOf_53)]
def b_X0_comes_0 : List (ev_I × List (Nat × Nat)) := [((.aload_n 0, 1, []), []), ((.getfield 25, 3, [0, 4, 2, 1]), []), ((.iload_n 1, 1, []), []), ((.aaload, 1, []), []), ((.astore 4, 2, []), []), ((.aload_n 3, 1, []), []), ((.getfield 604, 3, [1, 4, 0, 10]), []), ((.bipush 24, 2, []), []), ((.iload_n 1, 1, []), []), ((.imul, 1, []), []), ((.iload_n 2, 1, []), []), ((.iadd, 1, []), []), ((.daload, 1, []), []), ((.dstore 5, 2, []), []), ((.aload_n 0, 1, []), []), ((.getfield 56, 3, [0, 4, 10, 1]), []), ((.iload_n 1, 1, []), []), ((.iaload, 1, []), []), ((.iconst 2, 1, []), []), ((.if_icmp .ne 74, 3, [1532006]), []), ((.aload_n 0, 1, []), []), ((.iload_n 1, 1, []), []), ((.invokevirtual 607, 3, [2, 1, 373]), []), ((.astore 7, 2, []), []), ((.aload 7, 2, []), []), ((.getfield 420, 3, [1, 4, 0, 5]), []), ((.getfield 611, 3, [1, 0, 1, 3]), []), ((.iconst 1, 1, []), []), ((.if_icmp .ne 19, 3, [1531970]), []), ((.aload_n 0, 1, []), []), ((.getfield 17, 3, [0, 4, 1, 1]), []), ((.ldc_w 614, 3, [2, 0]), []), ((.invokevirtual 198, 3, [2, 11, 114, 12, 115]), []), ((.checkcast 12, 3, [1, 3]), []), ((.goto 8, 3, [1531975]), [])]
def b_X0_comes_66 : List (ev_I × List (Nat × Nat)) := [((.aload 7, 2, []), []), ((.getfield 420, 3, [1, 4, 0, 5]), []), ((.nop, 0, [0, 1531975]), [])]
def b_X0_comes_71 : List (ev_I × List (Nat × Nat)) := [((.nop, 0, [1, 0, 1, 7, 8]), []), ((.astore 8, 2, []), []), ((.aload 4, 2, []), []), ((.aload 8, 2, []), []), ((.iconst 1, 1, []), []), ((.aload 4, 2, []), []), ((.getfield 496, 3, [1, 0, 1, 4]), []), ((.invokestatic 514, 3, [94, 2]), []), ((.aload 4, 2, []), []), ((.iload_n 2, 1, []), []), ((.invokevirtual 615, 3, [2, 4, 298]), []), ((.dload 5, 2, []), []), ((.invokestatic 618, 3, [334, 4]), []), ((.invokevirtual 622, 3, [2, 4, 335]), []), ((.dstore 5, 2, []), []), ((.nop, 0, [0, 1532006]), [])]
def b_X0_comes_102 : List (ev_I × List (Nat × Nat)) := [((.nop, 0, [1, 0, 1, 7, 8]), []), ((.aload 4, 2, []), []), ((.iload_n 2, 1, []), []), ((.dload 5, 2, []), []), ((.invokevirtual 626, 3, [3, 4, 338]), []), ((.aload 4, 2, []), []), ((.getfield 551, 3, [1, 4, 3, 4]), []), ((.iload_n 2, 1, []), []), ((.aload_n 3, 1, []), []), ((.getfield 569, 3, [1, 0, 2, 10]), []), ((.iastore, 1, []), []), ((.return_, 1, []), [])]
def tb_X0_comes : List (Nat × List (ev_I × List (Nat × Nat))) := [(0, b_X0_comes_0), (66, b_X0_comes_66), (71, b_X0_comes_71), (102, b_X0_comes_102)]
def b_X0_comesOut_0 : List (ev_I × List (Nat × Nat)) := [((.iconst 0, 1, []), []), ((.istore_n 1, 1, []), []), ((.nop, 0, [0, 1536002]), [])]
def b_X0_comesOut_2 : List (ev_I × List (Nat × Nat)) := [((.nop, 0, [1, 2, 3]), []), ((.iload_n 1, 1, []), []), ((.bipush 6, 2, []), []), ((.if_icmp .ge 99, 3, [1536104]), []), ((.aload_n 0, 1, []), []), ((.getfield 56, 3, [0, 4, 10, 1]), []), ((.iload_n 1, 1, []), []), ((.iaload, 1, []), []), ((.iconst 1, 1, []), []), ((.if_icmp .eq 83, 3, [1536098]), []), ((.aload_n 0, 1, []), []), ((.getfield 25, 3, [0, 4, 2, 1]), []), ((.iload_n 1, 1, []), []), ((.aaload, 1, []), []), ((.ifnonnull 6, 3, [1536030]), []), ((.goto 71, 3, [1536098]), [])]
def b_X0_comesOut_30 : List (ev_I × List (Nat × Nat)) := [((.iconst 0, 1, []), []), ((.istore_n 2, 1, []), []), ((.nop, 0, [0, 1536032]), [])]
def b_X0_comesOut_32 : List (ev_I × List (Nat × Nat)) := [((.nop, 0, [1, 3]), []), ((.iload_n 2, 1, []), []), ((.aload_n 0, 1, []), []), ((.getfield 25, 3, [0, 4, 2, 1]), []), ((.iload_n 1, 1, []), []), ((.aaload, 1, []), []), ((.getfield 121, 3, [1, 0, 2, 4]), []), ((.if_icmp .ge 56, 3, [1536098]), []), ((.iconst 0, 1, []), []), ((.istore_n 3, 1, []), []), ((.nop, 0, [0, 1536047]), [])]
def b_X0_comesOut_47 : List (ev_I × List (Nat × Nat)) := [((.iload_n 3, 1, []), []), ((.aload_n 0, 1, []), []), ((.getfield 173, 3, [0, 0, 4, 1]), []), ((.if_icmp .ge 40, 3, [1536092]), []), ((.aload_n 0, 1, []), []), ((.getfield 68, 3, [0, 4, 12, 1]), []), ((.iload_n 3, 1, []), []), ((.aaload, 1, []), []), ((.getfield 597, 3, [1, 4, 1, 10]), []), ((.bipush 24, 2, []), []), ((.iload_n 1, 1, []), []), ((.imul, 1, []), []), ((.iload_n 2, 1, []), []), ((.iadd, 1, []), []), ((.baload, 1, []), []), ((.ifCond .eq 15, 3, [1536086]), []), ((.aload_n 0, 1, []), []), ((.iload_n 1, 1, []), []), ((.iload_n 2, 1, []), []), ((.aload_n 0, 1, []), []), ((.getfield 68, 3, [0, 4, 12, 1]), []), ((.iload_n 3, 1, []), []), ((.aaload, 1, []), []), ((.invokevirtual 600, 3, [4, 1, 374]), []), ((.nop, 0, [0, 1536086]), [])]
def b_X0_comesOut_86 : List (ev_I × List (Nat × Nat)) := [((.iinc 3 1, 3, []), []), ((.goto (-42), 3, [1536047]), [])]
def b_X0_comesOut_92 : List (ev_I × List (Nat × Nat)) := [((.iinc 2 1, 3, []), []), ((.goto (-63), 3, [1536032]), [])]
def b_X0_comesOut_98 : List (ev_I × List (Nat × Nat)) := [((.nop, 0, [1, 2, 3]), []), ((.iinc 1 1, 3, []), []), ((.goto (-99), 3, [1536002]), [])]
def b_X0_comesOut_104 : List (ev_I × List (Nat × Nat)) := [((.return_, 1, []), [])]
def tb_X0_comesOut : List (Nat × List (ev_I × List (Nat × Nat))) := [(0, b_X0_comesOut_0), (2, b_X0_comesOut_2), (30, b_X0_comesOut_30), (32, b_X0_comesOut_32), (47, b_X0_comesOut_47), (86, b_X0_comesOut_86), (92, b_X0_comesOut_92), (98, b_X0_comesOut_98), (104, b_X0_comesOut_104)]
def b_X0_mixes_0 : List (ev_I × List (Nat × Nat)) := [((.aload_n 0, 1, []), []), ((.iconst 1, 1, []), []), ((.invokevirtual 572, 3, [2, 1, 294]), []), ((.aload_n 0, 1, []), []), ((.iload_n 2, 1, []), []), ((.iload_n 1, 1, []), []), ((.invokevirtual 587, 3, [3, 1, 369]), []), ((.astore 4, 2, []), []), ((.iload_n 3, 1, []), []), ((.istore 5, 2, []), []), ((.iload_n 1, 1, []), []), ((.anewarray 63, 3, [51]), []), ((.astore 6, 2, []), []), ((.iload_n 1, 1, []), []), ((.istore 7, 2, []), []), ((.nop, 0, [0, 1540121]), [])]
def b_X0_mixes_25 : List (ev_I × List (Nat × Nat)) := [((.nop, 0, [1, 3, 8, 9]), []), ((.iload 7, 2, []), []), ((.ifCond .le 95, 3, [1540218]), []), ((.iconst 0, 1, []), []), ((.istore 7, 2, []), []), ((.iconst 0, 1, []), []), ((.istore 8, 2, []), []), ((.nop, 0, [0, 1540132]), [])]
def b_X0_mixes_36 : List (ev_I × List (Nat × Nat)) := [((.nop, 0, [1, 3, 9]), []), ((.iload 8, 2, []), []), ((.iload_n 1, 1, []), []), ((.if_icmp .ge 47, 3, [1540182]), []), ((.aload_n 0, 1, []), []), ((.iload 8, 2, []), []), ((.aload 4, 2, []), []), ((.iload_n 2, 1, []), []), ((.iconst 2, 1, []), []), ((.if_icmp .ne 7, 3, [1540152]), []), ((.iconst 1, 1, []), []), ((.goto 4, 3, [1540153]), [])]
def b_X0_mixes_56 : List (ev_I × List (Nat × Nat)) := [((.iconst 0, 1, []), []), ((.nop, 0, [0, 1540153]), [])]
def b_X0_mixes_57 : List (ev_I × List (Nat × Nat)) := [((.nop, 0, [1, 3, 9]), []), ((.invokevirtual 591, 3, [4, 1, 372]), []), ((.astore 9, 2, []), []), ((.aload 9, 2, []), []), ((.ifnonnull 6, 3, [1540166]), []), ((.goto 13, 3, [1540176]), [])]
def b_X0_mixes_70 : List (ev_I × List (Nat × Nat)) := [((.aload 6, 2, []), []), ((.iload 7, 2, []), []), ((.aload 9, 2, []), []), ((.aastore, 1, []), []), ((.iinc 7 1, 3, []), []), ((.nop, 0, [0, 1540176]), [])]
def b_X0_mixes_80 : List (ev_I × List (Nat × Nat)) := [((.nop, 0, [1, 3, 9]), []), ((.iinc 8 1, 3, []), []), ((.goto (-47), 3, [1540132]), [])]
def b_X0_mixes_86 : List (ev_I × List (Nat × Nat)) := [((.iload 7, 2, []), []), ((.ifCond .ne 6, 3, [1540190]), []), ((.goto 31, 3, [1540218]), [])]
def b_X0_mixes_94 : List (ev_I × List (Nat × Nat)) := [((.aload_n 0, 1, []), []), ((.aload 6, 2, []), []), ((.iload 5, 2, []), []), ((.iload 7, 2, []), []), ((.irem, 1, []), []), ((.aaload, 1, []), []), ((.invokevirtual 575, 3, [2, 1, 343]), []), ((.bipush 13, 2, []), []), ((.iload 5, 2, []), []), ((.imul, 1, []), []), ((.bipush 7, 2, []), []), ((.iadd, 1, []), []), ((.bipush 64, 2, []), []), ((.irem, 1, []), []), ((.istore 5, 2, []), []), ((.goto (-94), 3, [1540121]), [])]
def b_X0_mixes_122 : List (ev_I × List (Nat × Nat)) := [((.nop, 0, [1, 1, 2, 3, 4, 5, 6, 7, 8, 9]), []), ((.aload_n 0, 1, []), []), ((.invokevirtual 594, 3, [1, 1, 375]), []), ((.return_, 1, []), [])]
def tb_X0_mixes : List (Nat × List (ev_I × List (Nat × Nat))) := [(0, b_X0_mixes_0), (25, b_X0_mixes_25), (36, b_X0_mixes_36), (56, b_X0_mixes_56), (57, b_X0_mixes_57), (70, b_X0_mixes_70), (80, b_X0_mixes_80), (86, b_X0_mixes_86), (94, b_X0_mixes_94), (122, b_X0_mixes_122)]
def b_X0_mixed_0 : List (ev_I × List (Nat × Nat)) := [((.iload_n 1, 1, []), []), ((.iload_n 2, 1, []), []), ((.iload_n 3, 1, []), []), ((.iload 4, 2, []), []), ((.invokestatic 650, 3, [366, 4]), []), ((.ifCond .ne 6, 3, [1544206]), []), ((.bipush (-2), 2, []), []), ((.ireturn, 1, []), [])]
def b_X0_mixed_14 : List (ev_I × List (Nat × Nat)) := [((.iload 4, 2, []), []), ((.ifCond .ne 13, 3, [1544221]), []), ((.aload_n 0, 1, []), []), ((.invokevirtual 654, 3, [1, 1, 368]), []), ((.ifCond .ne 6, 3, [1544221]), []), ((.bipush (-3), 2, []), []), ((.ireturn, 1, []), [])]
def b_X0_mixed_29 : List (ev_I × List (Nat × Nat)) := [((.nop, 0, [1, 4]), []), ((.aload_n 0, 1, []), []), ((.iload_n 1, 1, []), []), ((.iload_n 2, 1, []), []), ((.iload_n 3, 1, []), []), ((.invokevirtual 657, 3, [4, 1, 376]), []), ((.aload_n 0, 1, []), []), ((.invokevirtual 639, 3, [1, 1, 345]), []), ((.ireturn, 1, []), [])]
def tb_X0_mixed : List (Nat × List (ev_I × List (Nat × Nat))) := [(0, b_X0_mixed_0), (14, b_X0_mixed_14), (29, b_X0_mixed_29)]
def b_X3_serials_0 : List (ev_I × List (Nat × Nat)) := [((.iconst 0, 1, []), []), ((.istore_n 1, 1, []), []), ((.iconst 0, 1, []), []), ((.istore_n 2, 1, []), []), ((.nop, 0, [0, 1548292]), [])]
def b_X3_serials_4 : List (ev_I × List (Nat × Nat)) := [((.iload_n 2, 1, []), []), ((.bipush 6, 2, []), []), ((.if_icmp .ge 26, 3, [1548321]), []), ((.iload_n 1, 1, []), []), ((.aload_n 0, 1, []), []), ((.iload_n 2, 1, []), []), ((.invokevirtual 313, 3, [2, 2, 280]), []), ((.iconst 4, 1, []), []), ((.if_icmp .ne 7, 3, [1548312]), []), ((.iconst 1, 1, []), []), ((.goto 4, 3, [1548313]), [])]
def b_X3_serials_24 : List (ev_I × List (Nat × Nat)) := [((.iconst 0, 1, []), []), ((.nop, 0, [0, 1548313]), [])]
def b_X3_serials_25 : List (ev_I × List (Nat × Nat)) := [((.nop, 0, [1, 1]), []), ((.iadd, 1, []), []), ((.istore_n 1, 1, []), []), ((.iinc 2 1, 3, []), []), ((.goto (-26), 3, [1548292]), [])]
def b_X3_serials_33 : List (ev_I × List (Nat × Nat)) := [((.iload_n 1, 1, []), []), ((.ireturn, 1, []), [])]
def tb_X3_serials : List (Nat × List (ev_I × List (Nat × Nat))) := [(0, b_X3_serials_0), (4, b_X3_serials_4), (24, b_X3_serials_24), (25, b_X3_serials_25), (33, b_X3_serials_33)]
def b_X3_mayMix_0 : List (ev_I × List (Nat × Nat)) := [((.iload_n 1, 1, []), []), ((.iconst 1, 1, []), []), ((.iconst 4, 1, []), []), ((.invokestatic 114, 3, [49, 3]), []), ((.ifCond .eq 32, 3, [1552422]), []), ((.iload_n 2, 1, []), []), ((.iconst 0, 1, []), []), ((.iconst 2, 1, []), []), ((.invokestatic 114, 3, [49, 3]), []), ((.ifCond .eq 23, 3, [1552422]), []), ((.iload_n 3, 1, []), []), ((.iconst 0, 1, []), []), ((.bipush 63, 2, []), []), ((.invokestatic 114, 3, [49, 3]), []), ((.ifCond .eq 13, 3, [1552422]), []), ((.iload 4, 2, []), []), ((.iconst 0, 1, []), []), ((.iconst 1, 1, []), []), ((.invokestatic 114, 3, [49, 3]), []), ((.ifCond .ne 6, 3, [1552425]), []), ((.nop, 0, [0, 1552422]), [])]
def b_X3_mayMix_38 : List (ev_I × List (Nat × Nat)) := [((.nop, 0, [1, 0, 1, 2, 3, 4]), []), ((.bipush (-2), 2, []), []), ((.ireturn, 1, []), [])]
def b_X3_mayMix_41 : List (ev_I × List (Nat × Nat)) := [((.iload 4, 2, []), []), ((.ifCond .ne 15, 3, [1552442]), []), ((.aload_n 0, 1, []), []), ((.invokevirtual 407, 3, [1, 2, 378]), []), ((.ifCond .le 8, 3, [1552442]), []), ((.bipush (-3), 2, []), []), ((.goto 4, 3, [1552443]), [])]
def b_X3_mayMix_58 : List (ev_I × List (Nat × Nat)) := [((.nop, 0, [1, 0, 1, 2, 3, 4]), []), ((.iconst 0, 1, []), []), ((.nop, 0, [0, 1552443]), [])]
def b_X3_mayMix_59 : List (ev_I × List (Nat × Nat)) := [((.nop, 0, [1, 0, 1, 2, 3, 4]), []), ((.ireturn, 1, []), [])]
def tb_X3_mayMix : List (Nat × List (ev_I × List (Nat × Nat))) := [(0, b_X3_mayMix_0), (38, b_X3_mayMix_38), (41, b_X3_mayMix_41), (58, b_X3_mayMix_58), (59, b_X3_mayMix_59)]
def b_X3_turnOf_0 : List (ev_I × List (Nat × Nat)) := [((.aload_n 0, 1, []), []), ((.getfield 154, 3, [0, 0, 6, 2]), []), ((.iload_n 2, 1, []), []), ((.iadd, 1, []), []), ((.iconst 1, 1, []), []), ((.isub, 1, []), []), ((.iload_n 2, 1, []), []), ((.idiv, 1, []), []), ((.istore 4, 2, []), []), ((.iconst (-1), 1, []), []), ((.istore 5, 2, []), []), ((.iconst 0, 1, []), []), ((.istore 6, 2, []), []), ((.nop, 0, [0, 1556498]), [])]
def b_X3_turnOf_18 : List (ev_I × List (Nat × Nat)) := [((.nop, 0, [1, 7, 8]), []), ((.iload 6, 2, []), []), ((.aload_n 0, 1, []), []), ((.getfield 154, 3, [0, 0, 6, 2]), []), ((.if_icmp .ge 92, 3, [1556596]), []), ((.iload_n 3, 1, []), []), ((.iconst 2, 1, []), []), ((.if_icmp .ne 8, 3, [1556517]), []), ((.iload 6, 2, []), []), ((.goto 12, 3, [1556526]), [])]
def b_X3_turnOf_37 : List (ev_I × List (Nat × Nat)) := [((.aload_n 0, 1, []), []), ((.getfield 154, 3, [0, 0, 6, 2]), []), ((.iconst 1, 1, []), []), ((.isub, 1, []), []), ((.iload 6, 2, []), []), ((.isub, 1, []), []), ((.nop, 0, [0, 1556526]), [])]
def b_X3_turnOf_46 : List (ev_I × List (Nat × Nat)) := [((.nop, 0, [1, 7, 8]), []), ((.istore 7, 2, []), []), ((.iload_n 3, 1, []), []), ((.iconst 1, 1, []), []), ((.if_icmp .ne 20, 3, [1556550]), []), ((.iload 7, 2, []), []), ((.iload 4, 2, []), []), ((.idiv, 1, []), []), ((.iload_n 1, 1, []), []), ((.if_icmp .ne 7, 3, [1556546]), []), ((.iconst 1, 1, []), []), ((.goto 20, 3, [1556563]), [])]
def b_X3_turnOf_66 : List (ev_I × List (Nat × Nat)) := [((.iconst 0, 1, []), []), ((.goto 16, 3, [1556563]), [])]
def b_X3_turnOf_70 : List (ev_I × List (Nat × Nat)) := [((.iload 7, 2, []), []), ((.iload_n 2, 1, []), []), ((.irem, 1, []), []), ((.iload_n 1, 1, []), []), ((.if_icmp .ne 7, 3, [1556562]), []), ((.iconst 1, 1, []), []), ((.goto 4, 3, [1556563]), [])]
def b_X3_turnOf_82 : List (ev_I × List (Nat × Nat)) := [((.iconst 0, 1, []), []), ((.nop, 0, [0, 1556563]), [])]
def b_X3_turnOf_83 : List (ev_I × List (Nat × Nat)) := [((.nop, 0, [1, 8]), []), ((.istore 8, 2, []), []), ((.iload 8, 2, []), []), ((.ifCond .eq 19, 3, [1556586]), []), ((.aload_n 0, 1, []), []), ((.getfield 87, 3, [0, 4, 40, 2]), []), ((.iload 7, 2, []), []), ((.iaload, 1, []), []), ((.iconst (-1), 1, []), []), ((.if_icmp .eq 8, 3, [1556586]), []), ((.iload 7, 2, []), []), ((.goto 5, 3, [1556588]), [])]
def b_X3_turnOf_106 : List (ev_I × List (Nat × Nat)) := [((.nop, 0, [1, 7, 8]), []), ((.iload 5, 2, []), []), ((.nop, 0, [0, 1556588]), [])]
def b_X3_turnOf_108 : List (ev_I × List (Nat × Nat)) := [((.nop, 0, [1, 5, 7, 8]), []), ((.istore 5, 2, []), []), ((.iinc 6 1, 3, []), []), ((.goto (-95), 3, [1556498]), [])]
def b_X3_turnOf_116 : List (ev_I × List (Nat × Nat)) := [((.iload 5, 2, []), []), ((.ireturn, 1, []), [])]
def tb_X3_turnOf : List (Nat × List (ev_I × List (Nat × Nat))) := [(0, b_X3_turnOf_0), (18, b_X3_turnOf_18), (37, b_X3_turnOf_37), (46, b_X3_turnOf_46), (66, b_X3_turnOf_66), (70, b_X3_turnOf_70), (82, b_X3_turnOf_82), (83, b_X3_turnOf_83), (106, b_X3_turnOf_106), (108, b_X3_turnOf_108), (116, b_X3_turnOf_116)]
def b_X3_left_0 : List (ev_I × List (Nat × Nat)) := [((.iconst 0, 1, []), []), ((.istore_n 3, 1, []), []), ((.iconst 0, 1, []), []), ((.istore 4, 2, []), []), ((.nop, 0, [0, 1560581]), [])]
def b_X3_left_5 : List (ev_I × List (Nat × Nat)) := [((.iload 4, 2, []), []), ((.iload_n 1, 1, []), []), ((.if_icmp .ge 29, 3, [1560613]), []), ((.iload_n 3, 1, []), []), ((.aload_n 0, 1, []), []), ((.iload 4, 2, []), []), ((.iload_n 1, 1, []), []), ((.iload_n 2, 1, []), []), ((.invokevirtual 398, 3, [4, 2, 380]), []), ((.iconst (-1), 1, []), []), ((.if_icmp .ne 7, 3, [1560604]), []), ((.iconst 0, 1, []), []), ((.goto 4, 3, [1560605]), [])]
def b_X3_left_28 : List (ev_I × List (Nat × Nat)) := [((.iconst 1, 1, []), []), ((.nop, 0, [0, 1560605]), [])]
def b_X3_left_29 : List (ev_I × List (Nat × Nat)) := [((.nop, 0, [1, 3]), []), ((.iadd, 1, []), []), ((.istore_n 3, 1, []), []), ((.iinc 4 1, 3, []), []), ((.goto (-29), 3, [1560581]), [])]
def b_X3_left_37 : List (ev_I × List (Nat × Nat)) := [((.iload_n 3, 1, []), []), ((.ireturn, 1, []), [])]
def tb_X3_left : List (Nat × List (ev_I × List (Nat × Nat))) := [(0, b_X3_left_0), (5, b_X3_left_5), (28, b_X3_left_28), (29, b_X3_left_29), (37, b_X3_left_37)]
def b_X3_copiesOut_0 : List (ev_I × List (Nat × Nat)) := [((.iconst 0, 1, []), []), ((.istore_n 1, 1, []), []), ((.nop, 0, [0, 1564674]), [])]
def b_X3_copiesOut_2 : List (ev_I × List (Nat × Nat)) := [((.nop, 0, [1, 2]), []), ((.iload_n 1, 1, []), []), ((.sipush 144, 3, []), []), ((.if_icmp .ge 65, 3, [1564743]), []), ((.iconst 0, 1, []), []), ((.istore_n 2, 1, []), []), ((.nop, 0, [0, 1564683]), [])]
def b_X3_copiesOut_11 : List (ev_I × List (Nat × Nat)) := [((.iload_n 2, 1, []), []), ((.aload_n 0, 1, []), []), ((.getfield 154, 3, [0, 0, 6, 2]), []), ((.if_icmp .ge 49, 3, [1564737]), []), ((.aload_n 0, 1, []), []), ((.getfield 77, 3, [0, 4, 32, 2]), []), ((.sipush 144, 3, []), []), ((.iload_n 2, 1, []), []), ((.imul, 1, []), []), ((.iload_n 1, 1, []), []), ((.iadd, 1, []), []), ((.baload, 1, []), []), ((.ifCond .eq 28, 3, [1564731]), []), ((.aload_n 0, 1, []), []), ((.getfield 16, 3, [0, 4, 2, 2]), []), ((.iload_n 1, 1, []), []), ((.aload_n 0, 1, []), []), ((.getfield 74, 3, [0, 4, 31, 2]), []), ((.sipush 144, 3, []), []), ((.iload_n 2, 1, []), []), ((.imul, 1, []), []), ((.iload_n 1, 1, []), []), ((.iadd, 1, []), []), ((.daload, 1, []), []), ((.dastore, 1, []), []), ((.aload_n 0, 1, []), []), ((.getfield 20, 3, [0, 4, 3, 2]), []), ((.iload_n 1, 1, []), []), ((.iload_n 2, 1, []), []), ((.iastore, 1, []), []), ((.nop, 0, [0, 1564731]), [])]
def b_X3_copiesOut_59 : List (ev_I × List (Nat × Nat)) := [((.iinc 2 1, 3, []), []), ((.goto (-51), 3, [1564683]), [])]
def b_X3_copiesOut_65 : List (ev_I × List (Nat × Nat)) := [((.iinc 1 1, 3, []), []), ((.goto (-66), 3, [1564674]), [])]
def b_X3_copiesOut_71 : List (ev_I × List (Nat × Nat)) := [((.return_, 1, []), [])]
def tb_X3_copiesOut : List (Nat × List (ev_I × List (Nat × Nat))) := [(0, b_X3_copiesOut_0), (2, b_X3_copiesOut_2), (11, b_X3_copiesOut_11), (59, b_X3_copiesOut_59), (65, b_X3_copiesOut_65), (71, b_X3_copiesOut_71)]
def b_X3_mixes_0 : List (ev_I × List (Nat × Nat)) := [((.iconst 0, 1, []), []), ((.istore 4, 2, []), []), ((.nop, 0, [0, 1568771]), [])]
def b_X3_mixes_3 : List (ev_I × List (Nat × Nat)) := [((.nop, 0, [1, 5, 6, 7, 8, 9]), []), ((.iload 4, 2, []), []), ((.bipush 6, 2, []), []), ((.if_icmp .ge 22, 3, [1568797]), []), ((.aload_n 0, 1, []), []), ((.getfield 68, 3, [0, 4, 29, 2]), []), ((.iload 4, 2, []), []), ((.aload_n 0, 1, []), []), ((.iload 4, 2, []), []), ((.invokevirtual 313, 3, [2, 2, 280]), []), ((.iastore, 1, []), []), ((.iinc 4 1, 3, []), []), ((.goto (-23), 3, [1568771]), [])]
def b_X3_mixes_29 : List (ev_I × List (Nat × Nat)) := [((.aload_n 0, 1, []), []), ((.iconst 1, 1, []), []), ((.putfield 359, 3, [0, 5, 33, 2]), []), ((.aload_n 0, 1, []), []), ((.invokevirtual 389, 3, [1, 2, 348]), []), ((.iload_n 3, 1, []), []), ((.istore 4, 2, []), []), ((.aload_n 0, 1, []), []), ((.iload_n 1, 1, []), []), ((.iload_n 2, 1, []), []), ((.invokevirtual 401, 3, [3, 2, 381]), []), ((.istore 5, 2, []), []), ((.nop, 0, [0, 1568817]), [])]
def b_X3_mixes_49 : List (ev_I × List (Nat × Nat)) := [((.nop, 0, [1, 3, 6, 7, 8, 9]), []), ((.iload 5, 2, []), []), ((.ifCond .le 104, 3, [1568923]), []), ((.iload 4, 2, []), []), ((.iload 5, 2, []), []), ((.irem, 1, []), []), ((.istore 6, 2, []), []), ((.iconst (-1), 1, []), []), ((.istore 7, 2, []), []), ((.iconst 0, 1, []), []), ((.istore 8, 2, []), []), ((.nop, 0, [0, 1568835]), [])]
def b_X3_mixes_67 : List (ev_I × List (Nat × Nat)) := [((.nop, 0, [1, 3, 5, 9]), []), ((.iload 8, 2, []), []), ((.iload_n 1, 1, []), []), ((.if_icmp .ge 55, 3, [1568893]), []), ((.aload_n 0, 1, []), []), ((.iload 8, 2, []), []), ((.iload_n 1, 1, []), []), ((.iload_n 2, 1, []), []), ((.invokevirtual 398, 3, [4, 2, 380]), []), ((.istore 9, 2, []), []), ((.iload 9, 2, []), []), ((.iconst (-1), 1, []), []), ((.if_icmp .eq 13, 3, [1568867]), []), ((.iload 6, 2, []), []), ((.ifCond .ne 8, 3, [1568867]), []), ((.iload 9, 2, []), []), ((.goto 5, 3, [1568869]), [])]
def b_X3_mixes_99 : List (ev_I × List (Nat × Nat)) := [((.nop, 0, [1, 3, 5]), []), ((.iload 7, 2, []), []), ((.nop, 0, [0, 1568869]), [])]
def b_X3_mixes_101 : List (ev_I × List (Nat × Nat)) := [((.nop, 0, [1, 3, 5, 7]), []), ((.istore 7, 2, []), []), ((.iload 6, 2, []), []), ((.iload 9, 2, []), []), ((.iconst (-1), 1, []), []), ((.if_icmp .ne 7, 3, [1568883]), []), ((.iconst 0, 1, []), []), ((.goto 4, 3, [1568884]), [])]
def b_X3_mixes_115 : List (ev_I × List (Nat × Nat)) := [((.iconst 1, 1, []), []), ((.nop, 0, [0, 1568884]), [])]
def b_X3_mixes_116 : List (ev_I × List (Nat × Nat)) := [((.nop, 0, [1, 3, 5, 6, 9]), []), ((.isub, 1, []), []), ((.istore 6, 2, []), []), ((.iinc 8 1, 3, []), []), ((.goto (-55), 3, [1568835]), [])]
def b_X3_mixes_125 : List (ev_I × List (Nat × Nat)) := [((.aload_n 0, 1, []), []), ((.iload 7, 2, []), []), ((.invokevirtual 392, 3, [2, 2, 362]), []), ((.bipush 13, 2, []), []), ((.iload 4, 2, []), []), ((.imul, 1, []), []), ((.bipush 7, 2, []), []), ((.iadd, 1, []), []), ((.bipush 64, 2, []), []), ((.irem, 1, []), []), ((.istore 4, 2, []), []), ((.aload_n 0, 1, []), []), ((.iload_n 1, 1, []), []), ((.iload_n 2, 1, []), []), ((.invokevirtual 401, 3, [3, 2, 381]), []), ((.istore 5, 2, []), []), ((.goto (-103), 3, [1568817]), [])]
def b_X3_mixes_155 : List (ev_I × List (Nat × Nat)) := [((.aload_n 0, 1, []), []), ((.invokevirtual 404, 3, [1, 2, 382]), []), ((.aload_n 0, 1, []), []), ((.getfield 377, 3, [0, 0, 34, 2]), []), ((.ireturn, 1, []), [])]
def tb_X3_mixes : List (Nat × List (ev_I × List (Nat × Nat))) := [(0, b_X3_mixes_0), (3, b_X3_mixes_3), (29, b_X3_mixes_29), (49, b_X3_mixes_49), (67, b_X3_mixes_67), (99, b_X3_mixes_99), (101, b_X3_mixes_101), (115, b_X3_mixes_115), (116, b_X3_mixes_116), (125, b_X3_mixes_125), (155, b_X3_mixes_155)]
def b_X3_mixed_0 : List (ev_I × List (Nat × Nat)) := [((.aload_n 0, 1, []), []), ((.iload_n 1, 1, []), []), ((.iload_n 2, 1, []), []), ((.iload_n 3, 1, []), []), ((.iload 4, 2, []), []), ((.invokevirtual 410, 3, [5, 2, 379]), []), ((.istore 5, 2, []), []), ((.iload 5, 2, []), []), ((.ifCond .ge 8, 3, [1572885]), []), ((.iload 5, 2, []), []), ((.goto 10, 3, [1572892]), [])]
def b_X3_mixed_21 : List (ev_I × List (Nat × Nat)) := [((.aload_n 0, 1, []), []), ((.iload_n 1, 1, []), []), ((.iload_n 2, 1, []), []), ((.iload_n 3, 1, []), []), ((.invokevirtual 414, 3, [4, 2, 383]), []), ((.nop, 0, [0, 1572892]), [])]
def b_X3_mixed_28 : List (ev_I × List (Nat × Nat)) := [((.nop, 0, [1, 0, 1, 2, 3, 4, 5]), []), ((.ireturn, 1, []), [])]
def tb_X3_mixed : List (Nat × List (ev_I × List (Nat × Nat))) := [(0, b_X3_mixed_0), (21, b_X3_mixed_21), (28, b_X3_mixed_28)]
def b_X0_keeps_0 : List (ev_I × List (Nat × Nat)) := [((.iconst 0, 1, []), []), ((.istore_n 2, 1, []), []), ((.nop, 0, [0, 1576962]), [])]
def b_X0_keeps_2 : List (ev_I × List (Nat × Nat)) := [((.nop, 0, [1, 3, 4]), []), ((.iload_n 2, 1, []), []), ((.bipush 6, 2, []), []), ((.if_icmp .ge 52, 3, [1577017]), []), ((.aload_n 0, 1, []), []), ((.iload_n 2, 1, []), []), ((.invokevirtual 391, 3, [2, 1, 159]), []), ((.astore_n 3, 1, []), []), ((.iconst 0, 1, []), []), ((.istore 4, 2, []), []), ((.nop, 0, [0, 1576977]), [])]
def b_X0_keeps_17 : List (ev_I × List (Nat × Nat)) := [((.aload_n 3, 1, []), []), ((.ifnull 33, 3, [1577011]), []), ((.iload 4, 2, []), []), ((.aload_n 3, 1, []), []), ((.getfield 121, 3, [1, 0, 2, 4]), []), ((.if_icmp .ge 24, 3, [1577011]), []), ((.aload_n 1, 1, []), []), ((.bipush 24, 2, []), []), ((.iload_n 2, 1, []), []), ((.imul, 1, []), []), ((.iload 4, 2, []), []), ((.iadd, 1, []), []), ((.aload_n 3, 1, []), []), ((.iload 4, 2, []), []), ((.invokevirtual 615, 3, [2, 4, 298]), []), ((.dastore, 1, []), []), ((.iinc 4 1, 3, []), []), ((.goto (-31), 3, [1576977]), [])]
def b_X0_keeps_51 : List (ev_I × List (Nat × Nat)) := [((.nop, 0, [1, 3, 4]), []), ((.iinc 2 1, 3, []), []), ((.goto (-52), 3, [1576962]), [])]
def b_X0_keeps_57 : List (ev_I × List (Nat × Nat)) := [((.return_, 1, []), [])]
def tb_X0_keeps : List (Nat × List (ev_I × List (Nat × Nat))) := [(0, b_X0_keeps_0), (2, b_X0_keeps_2), (17, b_X0_keeps_17), (51, b_X0_keeps_51), (57, b_X0_keeps_57)]
def b_X0_keepsWriters_0 : List (ev_I × List (Nat × Nat)) := [((.iconst 0, 1, []), []), ((.istore_n 1, 1, []), []), ((.nop, 0, [0, 1581058]), [])]
def b_X0_keepsWriters_2 : List (ev_I × List (Nat × Nat)) := [((.nop, 0, [1, 2, 3]), []), ((.iload_n 1, 1, []), []), ((.bipush 6, 2, []), []), ((.if_icmp .ge 53, 3, [1581114]), []), ((.aload_n 0, 1, []), []), ((.getfield 25, 3, [0, 4, 2, 1]), []), ((.iload_n 1, 1, []), []), ((.aaload, 1, []), []), ((.astore_n 2, 1, []), []), ((.iconst 0, 1, []), []), ((.istore_n 3, 1, []), []), ((.nop, 0, [0, 1581073]), [])]
def b_X0_keepsWriters_17 : List (ev_I × List (Nat × Nat)) := [((.aload_n 2, 1, []), []), ((.ifnull 34, 3, [1581108]), []), ((.iload_n 3, 1, []), []), ((.aload_n 2, 1, []), []), ((.getfield 121, 3, [1, 0, 2, 4]), []), ((.if_icmp .ge 26, 3, [1581108]), []), ((.aload_n 0, 1, []), []), ((.getfield 84, 3, [0, 4, 21, 1]), []), ((.bipush 24, 2, []), []), ((.iload_n 1, 1, []), []), ((.imul, 1, []), []), ((.iload_n 3, 1, []), []), ((.iadd, 1, []), []), ((.aload_n 2, 1, []), []), ((.getfield 551, 3, [1, 4, 3, 4]), []), ((.iload_n 3, 1, []), []), ((.iaload, 1, []), []), ((.iastore, 1, []), []), ((.iinc 3 1, 3, []), []), ((.goto (-32), 3, [1581073]), [])]
def b_X0_keepsWriters_52 : List (ev_I × List (Nat × Nat)) := [((.nop, 0, [1, 2, 3]), []), ((.iinc 1 1, 3, []), []), ((.goto (-53), 3, [1581058]), [])]
def b_X0_keepsWriters_58 : List (ev_I × List (Nat × Nat)) := [((.return_, 1, []), [])]
def tb_X0_keepsWriters : List (Nat × List (ev_I × List (Nat × Nat))) := [(0, b_X0_keepsWriters_0), (2, b_X0_keepsWriters_2), (17, b_X0_keepsWriters_17), (52, b_X0_keepsWriters_52), (58, b_X0_keepsWriters_58)]
def b_X0_takesBack_0 : List (ev_I × List (Nat × Nat)) := [((.iconst 0, 1, []), []), ((.istore_n 1, 1, []), []), ((.nop, 0, [0, 1585154]), [])]
def b_X0_takesBack_2 : List (ev_I × List (Nat × Nat)) := [((.nop, 0, [1, 2, 3]), []), ((.iload_n 1, 1, []), []), ((.bipush 6, 2, []), []), ((.if_icmp .ge 51, 3, [1585208]), []), ((.aload_n 0, 1, []), []), ((.iload_n 1, 1, []), []), ((.invokevirtual 391, 3, [2, 1, 159]), []), ((.astore_n 2, 1, []), []), ((.iconst 0, 1, []), []), ((.istore_n 3, 1, []), []), ((.nop, 0, [0, 1585168]), [])]
def b_X0_takesBack_16 : List (ev_I × List (Nat × Nat)) := [((.aload_n 2, 1, []), []), ((.ifnull 33, 3, [1585202]), []), ((.iload_n 3, 1, []), []), ((.aload_n 2, 1, []), []), ((.getfield 121, 3, [1, 0, 2, 4]), []), ((.if_icmp .ge 25, 3, [1585202]), []), ((.aload_n 2, 1, []), []), ((.iload_n 3, 1, []), []), ((.aload_n 0, 1, []), []), ((.getfield 80, 3, [0, 4, 20, 1]), []), ((.bipush 24, 2, []), []), ((.iload_n 1, 1, []), []), ((.imul, 1, []), []), ((.iload_n 3, 1, []), []), ((.iadd, 1, []), []), ((.daload, 1, []), []), ((.invokevirtual 626, 3, [3, 4, 338]), []), ((.iinc 3 1, 3, []), []), ((.goto (-31), 3, [1585168]), [])]
def b_X0_takesBack_50 : List (ev_I × List (Nat × Nat)) := [((.nop, 0, [1, 2, 3]), []), ((.iinc 1 1, 3, []), []), ((.goto (-51), 3, [1585154]), [])]
def b_X0_takesBack_56 : List (ev_I × List (Nat × Nat)) := [((.return_, 1, []), [])]
def tb_X0_takesBack : List (Nat × List (ev_I × List (Nat × Nat))) := [(0, b_X0_takesBack_0), (2, b_X0_takesBack_2), (16, b_X0_takesBack_16), (50, b_X0_takesBack_50), (56, b_X0_takesBack_56)]
def b_X0_isFound_0 : List (ev_I × List (Nat × Nat)) := [((.iconst 0, 1, []), []), ((.istore_n 1, 1, []), []), ((.nop, 0, [0, 1589250]), [])]
def b_X0_isFound_2 : List (ev_I × List (Nat × Nat)) := [((.nop, 0, [1, 2, 3]), []), ((.iload_n 1, 1, []), []), ((.bipush 6, 2, []), []), ((.if_icmp .ge 57, 3, [1589310]), []), ((.aload_n 0, 1, []), []), ((.iload_n 1, 1, []), []), ((.invokevirtual 391, 3, [2, 1, 159]), []), ((.astore_n 2, 1, []), []), ((.iconst 0, 1, []), []), ((.istore_n 3, 1, []), []), ((.nop, 0, [0, 1589264]), [])]
def b_X0_isFound_16 : List (ev_I × List (Nat × Nat)) := [((.aload_n 2, 1, []), []), ((.ifnull 39, 3, [1589304]), []), ((.iload_n 3, 1, []), []), ((.aload_n 2, 1, []), []), ((.getfield 121, 3, [1, 0, 2, 4]), []), ((.if_icmp .ge 31, 3, [1589304]), []), ((.aload_n 0, 1, []), []), ((.getfield 87, 3, [0, 4, 22, 1]), []), ((.bipush 24, 2, []), []), ((.iload_n 1, 1, []), []), ((.imul, 1, []), []), ((.iload_n 3, 1, []), []), ((.iadd, 1, []), []), ((.daload, 1, []), []), ((.aload_n 2, 1, []), []), ((.iload_n 3, 1, []), []), ((.invokevirtual 615, 3, [2, 4, 298]), []), ((.dcmp .l, 1, []), []), ((.ifCond .eq 5, 3, [1589298]), []), ((.iconst 0, 1, []), []), ((.ireturn, 1, [5]), [])]
def b_X0_isFound_50 : List (ev_I × List (Nat × Nat)) := [((.iinc 3 1, 3, []), []), ((.goto (-37), 3, [1589264]), [])]
def b_X0_isFound_56 : List (ev_I × List (Nat × Nat)) := [((.nop, 0, [1, 2, 3]), []), ((.iinc 1 1, 3, []), []), ((.goto (-57), 3, [1589250]), [])]
def b_X0_isFound_62 : List (ev_I × List (Nat × Nat)) := [((.iconst 1, 1, []), []), ((.ireturn, 1, [5]), [])]
def tb_X0_isFound : List (Nat × List (ev_I × List (Nat × Nat))) := [(0, b_X0_isFound_0), (2, b_X0_isFound_2), (16, b_X0_isFound_16), (50, b_X0_isFound_50), (56, b_X0_isFound_56), (62, b_X0_isFound_62)]
def b_X0_sameBy_0 : List (ev_I × List (Nat × Nat)) := [((.aload_n 0, 1, []), []), ((.aload_n 0, 1, []), []), ((.getfield 80, 3, [0, 4, 20, 1]), []), ((.invokevirtual 660, 3, [2, 1, 385]), []), ((.aload_n 0, 1, []), []), ((.invokevirtual 664, 3, [1, 1, 386]), []), ((.aload_n 0, 1, []), []), ((.invokevirtual 636, 3, [1, 1, 344]), [(77, 0)]), ((.aload_n 0, 1, []), []), ((.aload_n 0, 1, []), []), ((.getfield 87, 3, [0, 4, 22, 1]), [(77, 0)]), ((.invokevirtual 660, 3, [2, 1, 385]), [(77, 0)]), ((.aload_n 0, 1, []), []), ((.getfield 60, 3, [0, 4, 11, 1]), [(77, 0)]), ((.iconst 0, 1, []), []), ((.iaload, 1, []), [(77, 0)]), ((.istore 4, 2, []), []), ((.aload_n 0, 1, []), []), ((.getfield 60, 3, [0, 4, 11, 1]), [(77, 0)]), ((.iconst 1, 1, []), []), ((.iaload, 1, []), [(77, 0)]), ((.istore 5, 2, []), []), ((.aload_n 0, 1, []), []), ((.getfield 60, 3, [0, 4, 11, 1]), [(77, 0)]), ((.iconst 2, 1, []), []), ((.iaload, 1, []), [(77, 0)]), ((.istore 6, 2, []), []), ((.aload_n 0, 1, []), []), ((.getfield 557, 3, [0, 0, 15, 1]), [(77, 0)]), ((.istore 7, 2, []), []), ((.aload_n 0, 1, []), []), ((.invokevirtual 667, 3, [1, 1, 387]), [(77, 0)]), ((.aload_n 0, 1, []), []), ((.iload_n 1, 1, []), []), ((.iload_n 2, 1, []), []), ((.iload_n 3, 1, []), []), ((.invokevirtual 657, 3, [4, 1, 376]), [(77, 0)]), ((.aload_n 0, 1, []), []), ((.invokevirtual 670, 3, [1, 1, 388]), [(77, 0)]), ((.ifCond .eq 49, 3, [1593462]), []), ((.iload 4, 2, []), []), ((.aload_n 0, 1, []), []), ((.getfield 60, 3, [0, 4, 11, 1]), [(77, 0)]), ((.iconst 0, 1, []), []), ((.iaload, 1, []), [(77, 0)]), ((.if_icmp .ne 38, 3, [1593462]), []), ((.iload 5, 2, []), []), ((.aload_n 0, 1, []), []), ((.getfield 60, 3, [0, 4, 11, 1]), [(77, 0)]), ((.iconst 1, 1, []), []), ((.iaload, 1, []), [(77, 0)]), ((.if_icmp .ne 27, 3, [1593462]), []), ((.iload 6, 2, []), []), ((.aload_n 0, 1, []), []), ((.getfield 60, 3, [0, 4, 11, 1]), [(77, 0)]), ((.iconst 2, 1, []), []), ((.iaload, 1, []), [(77, 0)]), ((.if_icmp .ne 16, 3, [1593462]), []), ((.iload 7, 2, []), []), ((.aload_n 0, 1, []), []), ((.getfield 557, 3, [0, 0, 15, 1]), [(77, 0)]), ((.if_icmp .ne 7, 3, [1593462]), []), ((.iconst 1, 1, []), []), ((.goto 4, 3, [1593463]), [])]
def b_X0_sameBy_118 : List (ev_I × List (Nat × Nat)) := [((.nop, 0, [1, 1, 2, 3, 4, 5, 6, 7, 8, 9, 10, 11, 12, 13, 14, 15]), []), ((.iconst 0, 1, []), []), ((.nop, 0, [0, 1593463]), [])]
def b_X0_sameBy_119 : List (ev_I × List (Nat × Nat)) := [((.nop, 0, [1, 1, 2, 3, 4, 5, 6, 7, 8, 9, 10, 11, 12, 13, 14, 15]), []), ((.istore 8, 2, []), []), ((.aload_n 0, 1, []), []), ((.invokevirtual 667, 3, [1, 1, 387]), []), ((.iconst 0, 1, []), []), ((.istore 9, 2, []), []), ((.nop, 0, [0, 1593472]), [])]
def b_X0_sameBy_128 : List (ev_I × List (Nat × Nat)) := [((.nop, 0, [1, 1, 2, 3, 4, 5, 6, 7, 10, 11, 12, 13, 14, 15]), []), ((.iload 9, 2, []), []), ((.bipush 6, 2, []), []), ((.if_icmp .ge 63, 3, [1593539]), []), ((.aload_n 0, 1, []), []), ((.getfield 25, 3, [0, 4, 2, 1]), []), ((.iload 9, 2, []), []), ((.aaload, 1, []), []), ((.astore 10, 2, []), []), ((.iconst 0, 1, []), []), ((.istore 11, 2, []), []), ((.nop, 0, [0, 1593491]), [])]
def b_X0_sameBy_147 : List (ev_I × List (Nat × Nat)) := [((.nop, 0, [1, 1, 2, 3, 4, 5, 6, 7, 12, 13, 14, 15]), []), ((.aload 10, 2, []), []), ((.ifnull 40, 3, [1593533]), []), ((.iload 11, 2, []), []), ((.aload 10, 2, []), []), ((.getfield 121, 3, [1, 0, 2, 4]), []), ((.if_icmp .ge 30, 3, [1593533]), []), ((.aload 10, 2, []), []), ((.getfield 551, 3, [1, 4, 3, 4]), []), ((.iload 11, 2, []), []), ((.aload_n 0, 1, []), []), ((.getfield 84, 3, [0, 4, 21, 1]), []), ((.bipush 24, 2, []), []), ((.iload 9, 2, []), []), ((.imul, 1, []), []), ((.iload 11, 2, []), []), ((.iadd, 1, []), []), ((.iaload, 1, []), []), ((.iastore, 1, []), []), ((.iinc 11 1, 3, []), []), ((.goto (-39), 3, [1593491]), [])]
def b_X0_sameBy_189 : List (ev_I × List (Nat × Nat)) := [((.nop, 0, [1, 1, 2, 3, 4, 5, 6, 7, 10, 11, 12, 13, 14, 15]), []), ((.iinc 9 1, 3, []), []), ((.goto (-64), 3, [1593472]), [])]
def b_X0_sameBy_195 : List (ev_I × List (Nat × Nat)) := [((.iload 8, 2, []), []), ((.ireturn, 1, []), [])]
def b_X0_sameBy_198 : List (ev_I × List (Nat × Nat)) := [((.nop, 0, [1, 1, 2, 3, 4, 5, 6, 7, 8, 9, 10, 11, 12, 13, 14, 15]), []), ((.astore 12, 2, []), []), ((.aload_n 0, 1, []), []), ((.invokevirtual 667, 3, [1, 1, 387]), []), ((.iconst 0, 1, []), []), ((.istore 13, 2, []), []), ((.nop, 0, [0, 1593551]), [])]
def b_X0_sameBy_207 : List (ev_I × List (Nat × Nat)) := [((.nop, 0, [1, 1, 2, 3, 4, 5, 6, 7, 8, 9, 10, 11, 14, 15]), []), ((.iload 13, 2, []), []), ((.bipush 6, 2, []), []), ((.if_icmp .ge 63, 3, [1593618]), []), ((.aload_n 0, 1, []), []), ((.getfield 25, 3, [0, 4, 2, 1]), []), ((.iload 13, 2, []), []), ((.aaload, 1, []), []), ((.astore 14, 2, []), []), ((.iconst 0, 1, []), []), ((.istore 15, 2, []), []), ((.nop, 0, [0, 1593570]), [])]
def b_X0_sameBy_226 : List (ev_I × List (Nat × Nat)) := [((.nop, 0, [1, 1, 2, 3, 4, 5, 6, 7, 8, 9, 10, 11]), []), ((.aload 14, 2, []), []), ((.ifnull 40, 3, [1593612]), []), ((.iload 15, 2, []), []), ((.aload 14, 2, []), []), ((.getfield 121, 3, [1, 0, 2, 4]), []), ((.if_icmp .ge 30, 3, [1593612]), []), ((.aload 14, 2, []), []), ((.getfield 551, 3, [1, 4, 3, 4]), []), ((.iload 15, 2, []), []), ((.aload_n 0, 1, []), []), ((.getfield 84, 3, [0, 4, 21, 1]), []), ((.bipush 24, 2, []), []), ((.iload 13, 2, []), []), ((.imul, 1, []), []), ((.iload 15, 2, []), []), ((.iadd, 1, []), []), ((.iaload, 1, []), []), ((.iastore, 1, []), []), ((.iinc 15 1, 3, []), []), ((.goto (-39), 3, [1593570]), [])]
def b_X0_sameBy_268 : List (ev_I × List (Nat × Nat)) := [((.nop, 0, [1, 1, 2, 3, 4, 5, 6, 7, 8, 9, 10, 11, 14, 15]), []), ((.iinc 13 1, 3, []), []), ((.goto (-64), 3, [1593551]), [])]
def b_X0_sameBy_274 : List (ev_I × List (Nat × Nat)) := [((.aload 12, 2, []), []), ((.athrow, 1, []), [])]
def tb_X0_sameBy : List (Nat × List (ev_I × List (Nat × Nat))) := [(0, b_X0_sameBy_0), (118, b_X0_sameBy_118), (119, b_X0_sameBy_119), (128, b_X0_sameBy_128), (147, b_X0_sameBy_147), (189, b_X0_sameBy_189), (195, b_X0_sameBy_195), (198, b_X0_sameBy_198), (207, b_X0_sameBy_207), (226, b_X0_sameBy_226), (268, b_X0_sameBy_268), (274, b_X0_sameBy_274)]
def b_X0_same_0 : List (ev_I × List (Nat × Nat)) := [((.iload_n 1, 1, []), []), ((.iload_n 2, 1, []), []), ((.iload_n 3, 1, []), []), ((.iload 4, 2, []), []), ((.invokestatic 650, 3, [366, 4]), []), ((.ifCond .ne 6, 3, [1597454]), []), ((.bipush (-2), 2, []), []), ((.ireturn, 1, []), [])]
def b_X0_same_14 : List (ev_I × List (Nat × Nat)) := [((.iload 4, 2, []), []), ((.ifCond .ne 15, 3, [1597471]), []), ((.aload_n 0, 1, []), []), ((.invokevirtual 654, 3, [1, 1, 368]), []), ((.ifCond .ne 8, 3, [1597471]), []), ((.bipush (-3), 2, []), []), ((.goto 10, 3, [1597478]), [])]
def b_X0_same_31 : List (ev_I × List (Nat × Nat)) := [((.nop, 0, [1, 4]), []), ((.aload_n 0, 1, []), []), ((.iload_n 1, 1, []), []), ((.iload_n 2, 1, []), []), ((.iload_n 3, 1, []), []), ((.invokevirtual 673, 3, [4, 1, 389]), []), ((.nop, 0, [0, 1597478]), [])]
def b_X0_same_38 : List (ev_I × List (Nat × Nat)) := [((.nop, 0, [1, 0, 1, 2, 3, 4]), []), ((.ireturn, 1, []), [])]
def tb_X0_same : List (Nat × List (ev_I × List (Nat × Nat))) := [(0, b_X0_same_0), (14, b_X0_same_14), (31, b_X0_same_31), (38, b_X0_same_38)]
def b_X3_sameNow_0 : List (ev_I × List (Nat × Nat)) := [((.aload_n 0, 1, []), []), ((.getfield 377, 3, [0, 0, 34, 2]), []), ((.istore 4, 2, []), []), ((.aload_n 0, 1, []), []), ((.getfield 380, 3, [0, 0, 37, 2]), []), ((.istore 5, 2, []), []), ((.iconst 0, 1, []), []), ((.istore 6, 2, []), []), ((.nop, 0, [0, 1601551]), [])]
def b_X3_sameNow_15 : List (ev_I × List (Nat × Nat)) := [((.nop, 0, [1, 7, 8]), []), ((.iload 6, 2, []), []), ((.sipush 144, 3, []), []), ((.if_icmp .ge 37, 3, [1601593]), []), ((.aload_n 0, 1, []), []), ((.getfield 90, 3, [0, 4, 41, 2]), []), ((.iload 6, 2, []), []), ((.aload_n 0, 1, []), []), ((.getfield 16, 3, [0, 4, 2, 2]), []), ((.iload 6, 2, []), []), ((.daload, 1, []), []), ((.dastore, 1, []), []), ((.aload_n 0, 1, []), []), ((.getfield 96, 3, [0, 4, 43, 2]), []), ((.iload 6, 2, []), []), ((.aload_n 0, 1, []), []), ((.getfield 20, 3, [0, 4, 3, 2]), []), ((.iload 6, 2, []), []), ((.iaload, 1, []), []), ((.iastore, 1, []), []), ((.iinc 6 1, 3, []), []), ((.goto (-39), 3, [1601551]), [])]
def b_X3_sameNow_57 : List (ev_I × List (Nat × Nat)) := [((.iconst 0, 1, []), []), ((.istore 6, 2, []), []), ((.nop, 0, [0, 1601596]), [])]
def b_X3_sameNow_60 : List (ev_I × List (Nat × Nat)) := [((.nop, 0, [1, 7, 8]), []), ((.iload 6, 2, []), []), ((.bipush 10, 2, []), []), ((.if_icmp .ge 23, 3, [1601623]), []), ((.aload_n 0, 1, []), []), ((.getfield 99, 3, [0, 4, 44, 2]), []), ((.iload 6, 2, []), []), ((.aload_n 0, 1, []), []), ((.getfield 84, 3, [0, 4, 36, 2]), []), ((.iload 6, 2, []), []), ((.iaload, 1, []), []), ((.iastore, 1, []), []), ((.iinc 6 1, 3, []), []), ((.goto (-24), 3, [1601596]), [])]
def b_X3_sameNow_87 : List (ev_I × List (Nat × Nat)) := [((.iconst 0, 1, []), []), ((.istore 6, 2, []), []), ((.nop, 0, [0, 1601626]), [])]
def b_X3_sameNow_90 : List (ev_I × List (Nat × Nat)) := [((.nop, 0, [1, 7, 8]), []), ((.iload 6, 2, []), []), ((.iconst 3, 1, []), []), ((.if_icmp .ge 23, 3, [1601652]), []), ((.aload_n 0, 1, []), []), ((.getfield 102, 3, [0, 4, 45, 2]), []), ((.iload 6, 2, []), []), ((.aload_n 0, 1, []), []), ((.getfield 81, 3, [0, 4, 35, 2]), []), ((.iload 6, 2, []), []), ((.iaload, 1, []), []), ((.iastore, 1, []), []), ((.iinc 6 1, 3, []), []), ((.goto (-23), 3, [1601626]), [])]
def b_X3_sameNow_116 : List (ev_I × List (Nat × Nat)) := [((.aload_n 0, 1, []), []), ((.invokevirtual 394, 3, [1, 2, 363]), []), ((.istore 6, 2, []), []), ((.iconst 0, 1, []), []), ((.istore 7, 2, []), []), ((.nop, 0, [0, 1601661]), [])]
def b_X3_sameNow_125 : List (ev_I × List (Nat × Nat)) := [((.nop, 0, [1, 8]), []), ((.iload 7, 2, []), []), ((.iconst 3, 1, []), []), ((.if_icmp .ge 23, 3, [1601687]), []), ((.aload_n 0, 1, []), []), ((.getfield 105, 3, [0, 4, 46, 2]), []), ((.iload 7, 2, []), []), ((.aload_n 0, 1, []), []), ((.getfield 81, 3, [0, 4, 35, 2]), []), ((.iload 7, 2, []), []), ((.iaload, 1, []), []), ((.iastore, 1, []), []), ((.iinc 7 1, 3, []), []), ((.goto (-23), 3, [1601661]), [])]
def b_X3_sameNow_151 : List (ev_I × List (Nat × Nat)) := [((.iconst 0, 1, []), []), ((.istore 7, 2, []), []), ((.nop, 0, [0, 1601690]), [])]
def b_X3_sameNow_154 : List (ev_I × List (Nat × Nat)) := [((.nop, 0, [1, 8]), []), ((.iload 7, 2, []), []), ((.sipush 144, 3, []), []), ((.if_icmp .ge 37, 3, [1601732]), []), ((.aload_n 0, 1, []), []), ((.getfield 93, 3, [0, 4, 42, 2]), []), ((.iload 7, 2, []), []), ((.aload_n 0, 1, []), []), ((.getfield 16, 3, [0, 4, 2, 2]), []), ((.iload 7, 2, []), []), ((.daload, 1, []), []), ((.dastore, 1, []), []), ((.aload_n 0, 1, []), []), ((.getfield 16, 3, [0, 4, 2, 2]), []), ((.iload 7, 2, []), []), ((.aload_n 0, 1, []), []), ((.getfield 90, 3, [0, 4, 41, 2]), []), ((.iload 7, 2, []), []), ((.daload, 1, []), []), ((.dastore, 1, []), []), ((.iinc 7 1, 3, []), []), ((.goto (-39), 3, [1601690]), [])]
def b_X3_sameNow_196 : List (ev_I × List (Nat × Nat)) := [((.aload_n 0, 1, []), []), ((.iload_n 1, 1, []), []), ((.iload_n 2, 1, []), []), ((.iload_n 3, 1, []), []), ((.invokevirtual 414, 3, [4, 2, 383]), []), ((.iload 6, 2, []), []), ((.if_icmp .ne 7, 3, [1601748]), []), ((.iconst 1, 1, []), []), ((.goto 4, 3, [1601749]), [])]
def b_X3_sameNow_212 : List (ev_I × List (Nat × Nat)) := [((.iconst 0, 1, []), []), ((.nop, 0, [0, 1601749]), [])]
def b_X3_sameNow_213 : List (ev_I × List (Nat × Nat)) := [((.nop, 0, [1, 1, 2, 3, 6, 7, 8]), []), ((.istore 7, 2, []), []), ((.iconst 0, 1, []), []), ((.istore 8, 2, []), []), ((.nop, 0, [0, 1601754]), [])]
def b_X3_sameNow_218 : List (ev_I × List (Nat × Nat)) := [((.nop, 0, [1, 1, 2, 3, 6]), []), ((.iload 8, 2, []), []), ((.iconst 3, 1, []), []), ((.if_icmp .ge 52, 3, [1601809]), []), ((.iload 7, 2, []), []), ((.ifCond .eq 24, 3, [1601786]), []), ((.aload_n 0, 1, []), []), ((.getfield 105, 3, [0, 4, 46, 2]), []), ((.iload 8, 2, []), []), ((.iaload, 1, []), []), ((.aload_n 0, 1, []), []), ((.getfield 81, 3, [0, 4, 35, 2]), []), ((.iload 8, 2, []), []), ((.iaload, 1, []), []), ((.if_icmp .ne 7, 3, [1601786]), []), ((.iconst 1, 1, []), []), ((.goto 4, 3, [1601787]), [])]
def b_X3_sameNow_250 : List (ev_I × List (Nat × Nat)) := [((.nop, 0, [1, 1, 2, 3, 6, 7]), []), ((.iconst 0, 1, []), []), ((.nop, 0, [0, 1601787]), [])]
def b_X3_sameNow_251 : List (ev_I × List (Nat × Nat)) := [((.nop, 0, [1, 1, 2, 3, 6, 7]), []), ((.istore 7, 2, []), []), ((.aload_n 0, 1, []), []), ((.getfield 81, 3, [0, 4, 35, 2]), []), ((.iload 8, 2, []), []), ((.aload_n 0, 1, []), []), ((.getfield 102, 3, [0, 4, 45, 2]), []), ((.iload 8, 2, []), []), ((.iaload, 1, []), []), ((.iastore, 1, []), []), ((.iinc 8 1, 3, []), []), ((.goto (-52), 3, [1601754]), [])]
def b_X3_sameNow_273 : List (ev_I × List (Nat × Nat)) := [((.iconst 0, 1, []), []), ((.istore 8, 2, []), []), ((.nop, 0, [0, 1601812]), [])]
def b_X3_sameNow_276 : List (ev_I × List (Nat × Nat)) := [((.nop, 0, [1, 1, 2, 3, 6]), []), ((.iload 8, 2, []), []), ((.sipush 144, 3, []), []), ((.if_icmp .ge 67, 3, [1601884]), []), ((.iload 7, 2, []), []), ((.ifCond .eq 25, 3, [1601847]), []), ((.aload_n 0, 1, []), []), ((.getfield 16, 3, [0, 4, 2, 2]), []), ((.iload 8, 2, []), []), ((.daload, 1, []), []), ((.aload_n 0, 1, []), []), ((.getfield 93, 3, [0, 4, 42, 2]), []), ((.iload 8, 2, []), []), ((.daload, 1, []), []), ((.dcmp .l, 1, []), []), ((.ifCond .ne 7, 3, [1601847]), []), ((.iconst 1, 1, []), []), ((.goto 4, 3, [1601848]), [])]
def b_X3_sameNow_311 : List (ev_I × List (Nat × Nat)) := [((.nop, 0, [1, 1, 2, 3, 6, 7]), []), ((.iconst 0, 1, []), []), ((.nop, 0, [0, 1601848]), [])]
def b_X3_sameNow_312 : List (ev_I × List (Nat × Nat)) := [((.nop, 0, [1, 1, 2, 3, 6, 7]), []), ((.istore 7, 2, []), []), ((.aload_n 0, 1, []), []), ((.getfield 16, 3, [0, 4, 2, 2]), []), ((.iload 8, 2, []), []), ((.aload_n 0, 1, []), []), ((.getfield 90, 3, [0, 4, 41, 2]), []), ((.iload 8, 2, []), []), ((.daload, 1, []), []), ((.dastore, 1, []), []), ((.aload_n 0, 1, []), []), ((.getfield 20, 3, [0, 4, 3, 2]), []), ((.iload 8, 2, []), []), ((.aload_n 0, 1, []), []), ((.getfield 96, 3, [0, 4, 43, 2]), []), ((.iload 8, 2, []), []), ((.iaload, 1, []), []), ((.iastore, 1, []), []), ((.iinc 8 1, 3, []), []), ((.goto (-69), 3, [1601812]), [])]
def b_X3_sameNow_348 : List (ev_I × List (Nat × Nat)) := [((.iconst 0, 1, []), []), ((.istore 8, 2, []), []), ((.nop, 0, [0, 1601887]), [])]
def b_X3_sameNow_351 : List (ev_I × List (Nat × Nat)) := [((.nop, 0, [1, 1, 2, 3, 6]), []), ((.iload 8, 2, []), []), ((.bipush 10, 2, []), []), ((.if_icmp .ge 23, 3, [1601914]), []), ((.aload_n 0, 1, []), []), ((.getfield 84, 3, [0, 4, 36, 2]), []), ((.iload 8, 2, []), []), ((.aload_n 0, 1, []), []), ((.getfield 99, 3, [0, 4, 44, 2]), []), ((.iload 8, 2, []), []), ((.iaload, 1, []), []), ((.iastore, 1, []), []), ((.iinc 8 1, 3, []), []), ((.goto (-24), 3, [1601887]), [])]
def b_X3_sameNow_378 : List (ev_I × List (Nat × Nat)) := [((.aload_n 0, 1, []), []), ((.iload 4, 2, []), []), ((.putfield 377, 3, [0, 0, 34, 2]), []), ((.aload_n 0, 1, []), []), ((.iload 5, 2, []), []), ((.putfield 380, 3, [0, 0, 37, 2]), []), ((.iload 7, 2, []), []), ((.ifCond .eq 7, 3, [1601935]), []), ((.iconst 1, 1, []), []), ((.goto 4, 3, [1601936]), [])]
def b_X3_sameNow_399 : List (ev_I × List (Nat × Nat)) := [((.iconst 0, 1, []), []), ((.nop, 0, [0, 1601936]), [])]
def b_X3_sameNow_400 : List (ev_I × List (Nat × Nat)) := [((.nop, 0, [1, 0, 1, 2, 3, 4, 5, 6, 7, 8]), []), ((.ireturn, 1, []), [])]
def tb_X3_sameNow : List (Nat × List (ev_I × List (Nat × Nat))) := [(0, b_X3_sameNow_0), (15, b_X3_sameNow_15), (57, b_X3_sameNow_57), (60, b_X3_sameNow_60), (87, b_X3_sameNow_87), (90, b_X3_sameNow_90), (116, b_X3_sameNow_116), (125, b_X3_sameNow_125), (151, b_X3_sameNow_151), (154, b_X3_sameNow_154), (196, b_X3_sameNow_196), (212, b_X3_sameNow_212), (213, b_X3_sameNow_213), (218, b_X3_sameNow_218), (250, b_X3_sameNow_250), (251, b_X3_sameNow_251), (273, b_X3_sameNow_273), (276, b_X3_sameNow_276), (311, b_X3_sameNow_311), (312, b_X3_sameNow_312), (348, b_X3_sameNow_348), (351, b_X3_sameNow_351), (378, b_X3_sameNow_378), (399, b_X3_sameNow_399), (400, b_X3_sameNow_400)]
def b_X3_same_0 : List (ev_I × List (Nat × Nat)) := [((.aload_n 0, 1, []), []), ((.iload_n 1, 1, []), []), ((.iload_n 2, 1, []), []), ((.iload_n 3, 1, []), []), ((.iload 4, 2, []), []), ((.invokevirtual 410, 3, [5, 2, 379]), []), ((.istore 5, 2, []), []), ((.iload 5, 2, []), []), ((.ifCond .ge 8, 3, [1605653]), []), ((.iload 5, 2, []), []), ((.goto 10, 3, [1605660]), [])]
def b_X3_same_21 : List (ev_I × List (Nat × Nat)) := [((.aload_n 0, 1, []), []), ((.iload_n 1, 1, []), []), ((.iload_n 2, 1, []), []), ((.iload_n 3, 1, []), []), ((.invokevirtual 417, 3, [4, 2, 391]), []), ((.nop, 0, [0, 1605660]), [])]
def b_X3_same_28 : List (ev_I × List (Nat × Nat)) := [((.nop, 0, [1, 0, 1, 2, 3, 4, 5]), []), ((.ireturn, 1, []), [])]
def tb_X3_same : List (Nat × List (ev_I × List (Nat × Nat))) := [(0, b_X3_same_0), (21, b_X3_same_21), (28, b_X3_same_28)]
def b_X0_faults_0 : List (ev_I × List (Nat × Nat)) := [((.iload_n 1, 1, []), []), ((.i2l, 1, []), []), ((.lconst 0, 1, []), []), ((.ldc2_w 224, 3, [0, 0, 2]), []), ((.invokestatic 90, 3, [43, 3]), []), ((.ifCond .eq 12, 3, [1609749]), []), ((.aload_n 0, 1, []), []), ((.getfield 74, 3, [0, 4, 16, 1]), []), ((.iload_n 1, 1, []), []), ((.iaload, 1, []), []), ((.goto 5, 3, [1609751]), [])]
def b_X0_faults_21 : List (ev_I × List (Nat × Nat)) := [((.bipush (-2), 2, []), []), ((.nop, 0, [0, 1609751]), [])]
def b_X0_faults_23 : List (ev_I × List (Nat × Nat)) := [((.nop, 0, [1, 0, 1]), []), ((.ireturn, 1, []), [])]
def tb_X0_faults : List (Nat × List (ev_I × List (Nat × Nat))) := [(0, b_X0_faults_0), (21, b_X0_faults_21), (23, b_X0_faults_23)]
def b_X3_faults_0 : List (ev_I × List (Nat × Nat)) := [((.iload_n 1, 1, []), []), ((.iconst 0, 1, []), []), ((.iconst 2, 1, []), []), ((.invokestatic 114, 3, [49, 3]), []), ((.ifCond .eq 12, 3, [1613842]), []), ((.aload_n 0, 1, []), []), ((.getfield 81, 3, [0, 4, 35, 2]), []), ((.iload_n 1, 1, []), []), ((.iaload, 1, []), []), ((.goto 5, 3, [1613844]), [])]
def b_X3_faults_18 : List (ev_I × List (Nat × Nat)) := [((.bipush (-2), 2, []), []), ((.nop, 0, [0, 1613844]), [])]
def b_X3_faults_20 : List (ev_I × List (Nat × Nat)) := [((.nop, 0, [1, 0, 1]), []), ((.ireturn, 1, []), [])]
def tb_X3_faults : List (Nat × List (ev_I × List (Nat × Nat))) := [(0, b_X3_faults_0), (18, b_X3_faults_18), (20, b_X3_faults_20)]
def b_X0_endedBy_0 : List (ev_I × List (Nat × Nat)) := [((.iload_n 1, 1, []), []), ((.aload_n 0, 1, []), []), ((.getfield 630, 3, [0, 0, 18, 1]), []), ((.if_icmp .ge 12, 3, [1617937]), []), ((.aload_n 0, 1, []), []), ((.getfield 77, 3, [0, 4, 17, 1]), []), ((.iload_n 1, 1, []), []), ((.iaload, 1, []), []), ((.goto 4, 3, [1617938]), [])]
def b_X0_endedBy_17 : List (ev_I × List (Nat × Nat)) := [((.iconst (-1), 1, []), []), ((.nop, 0, [0, 1617938]), [])]
def b_X0_endedBy_18 : List (ev_I × List (Nat × Nat)) := [((.nop, 0, [1, 0, 1]), []), ((.ireturn, 1, []), [])]
def tb_X0_endedBy : List (Nat × List (ev_I × List (Nat × Nat))) := [(0, b_X0_endedBy_0), (17, b_X0_endedBy_17), (18, b_X0_endedBy_18)]
def b_X0_ended_0 : List (ev_I × List (Nat × Nat)) := [((.iload_n 1, 1, []), []), ((.i2l, 1, []), []), ((.lconst 0, 1, []), []), ((.ldc2_w 676, 3, [0, 0, 9]), []), ((.invokestatic 90, 3, [43, 3]), []), ((.ifCond .eq 11, 3, [1622036]), []), ((.aload_n 0, 1, []), []), ((.iload_n 1, 1, []), []), ((.invokevirtual 678, 3, [2, 1, 395]), []), ((.goto 5, 3, [1622038]), [])]
def b_X0_ended_20 : List (ev_I × List (Nat × Nat)) := [((.bipush (-2), 2, []), []), ((.nop, 0, [0, 1622038]), [])]
def b_X0_ended_22 : List (ev_I × List (Nat × Nat)) := [((.nop, 0, [1, 0, 1]), []), ((.ireturn, 1, []), [])]
def tb_X0_ended : List (Nat × List (ev_I × List (Nat × Nat))) := [(0, b_X0_ended_0), (20, b_X0_ended_20), (22, b_X0_ended_22)]
def b_X3_ended_0 : List (ev_I × List (Nat × Nat)) := [((.iload_n 1, 1, []), []), ((.iconst 0, 1, []), []), ((.bipush 9, 2, []), []), ((.invokestatic 114, 3, [49, 3]), []), ((.ifCond .ne 8, 3, [1626127]), []), ((.bipush (-2), 2, []), []), ((.goto 21, 3, [1626145]), [])]
def b_X3_ended_15 : List (ev_I × List (Nat × Nat)) := [((.iload_n 1, 1, []), []), ((.aload_n 0, 1, []), []), ((.getfield 380, 3, [0, 0, 37, 2]), []), ((.if_icmp .ge 12, 3, [1626144]), []), ((.aload_n 0, 1, []), []), ((.getfield 84, 3, [0, 4, 36, 2]), []), ((.iload_n 1, 1, []), []), ((.iaload, 1, []), []), ((.goto 4, 3, [1626145]), [])]
def b_X3_ended_32 : List (ev_I × List (Nat × Nat)) := [((.iconst (-1), 1, []), []), ((.nop, 0, [0, 1626145]), [])]
def b_X3_ended_33 : List (ev_I × List (Nat × Nat)) := [((.nop, 0, [1, 0, 1]), []), ((.ireturn, 1, []), [])]
def tb_X3_ended : List (Nat × List (ev_I × List (Nat × Nat))) := [(0, b_X3_ended_0), (15, b_X3_ended_15), (32, b_X3_ended_32), (33, b_X3_ended_33)]
def b_X0_writer_0 : List (ev_I × List (Nat × Nat)) := [((.iload_n 1, 1, []), []), ((.invokestatic 106, 3, [44, 1]), []), ((.ifCond .ne 6, 3, [1630218]), []), ((.bipush (-2), 2, []), []), ((.ireturn, 1, []), [])]
def b_X0_writer_10 : List (ev_I × List (Nat × Nat)) := [((.aload_n 0, 1, []), []), ((.getfield 25, 3, [0, 4, 2, 1]), [(1, 1630230), (3, 1630237)]), ((.iload_n 1, 1, []), []), ((.aaload, 1, []), [(1, 1630230), (3, 1630237)]), ((.getfield 551, 3, [2, 4, 3, 4]), [(1, 1630230), (3, 1630237)]), ((.iload_n 2, 1, []), []), ((.iaload, 1, [3]), [(1, 1630230), (3, 1630237)]), ((.ireturn, 1, []), [])]
def b_X0_writer_22 : List (ev_I × List (Nat × Nat)) := [((.astore_n 3, 1, []), []), ((.aload_n 0, 1, []), []), ((.iconst 1, 1, []), []), ((.invokevirtual 117, 3, [2, 1, 47]), []), ((.ireturn, 1, []), [])]
def b_X0_writer_29 : List (ev_I × List (Nat × Nat)) := [((.astore_n 3, 1, []), []), ((.aload_n 0, 1, []), []), ((.iconst 2, 1, []), []), ((.invokevirtual 117, 3, [2, 1, 47]), []), ((.ireturn, 1, []), [])]
def tb_X0_writer : List (Nat × List (ev_I × List (Nat × Nat))) := [(0, b_X0_writer_0), (10, b_X0_writer_10), (22, b_X0_writer_22), (29, b_X0_writer_29)]
def b_X3_writer_0 : List (ev_I × List (Nat × Nat)) := [((.iload_n 1, 1, []), []), ((.invokestatic 122, 3, [50, 1]), []), ((.ifCond .ne 6, 3, [1634314]), []), ((.bipush (-2), 2, []), []), ((.ireturn, 1, []), [])]
def b_X3_writer_10 : List (ev_I × List (Nat × Nat)) := [((.aload_n 0, 1, []), []), ((.iload_n 1, 1, []), []), ((.iload_n 2, 1, []), []), ((.invokevirtual 144, 3, [3, 2, 66]), []), ((.istore_n 3, 1, []), []), ((.iload_n 3, 1, []), []), ((.ifCond .le 11, 3, [1634333]), []), ((.aload_n 0, 1, []), []), ((.iload_n 3, 1, []), []), ((.invokevirtual 126, 3, [2, 2, 51]), []), ((.goto 14, 3, [1634344]), [])]
def b_X3_writer_29 : List (ev_I × List (Nat × Nat)) := [((.aload_n 0, 1, []), []), ((.getfield 20, 3, [0, 4, 3, 2]), []), ((.bipush 24, 2, []), []), ((.iload_n 1, 1, []), []), ((.imul, 1, []), []), ((.iload_n 2, 1, []), []), ((.iadd, 1, []), []), ((.iaload, 1, []), []), ((.nop, 0, [0, 1634344]), [])]
def b_X3_writer_40 : List (ev_I × List (Nat × Nat)) := [((.nop, 0, [1, 0, 1, 2, 3]), []), ((.ireturn, 1, []), [])]
def tb_X3_writer : List (Nat × List (ev_I × List (Nat × Nat))) := [(0, b_X3_writer_0), (10, b_X3_writer_10), (29, b_X3_writer_29), (40, b_X3_writer_40)]
def b_X0_serialNow_0 : List (ev_I × List (Nat × Nat)) := [((.aload_n 0, 1, []), []), ((.invokevirtual 449, 3, [1, 1, 240]), []), ((.aload_n 0, 1, []), []), ((.invokevirtual 647, 3, [1, 1, 367]), []), ((.ireturn, 1, []), [])]
def tb_X0_serialNow : List (Nat × List (ev_I × List (Nat × Nat))) := [(0, b_X0_serialNow_0)]
def b_X0_missing_0 : List (ev_I × List (Nat × Nat)) := [((.iconst 0, 1, []), []), ((.istore_n 1, 1, []), []), ((.aload_n 0, 1, []), []), ((.getfield 25, 3, [0, 4, 2, 1]), []), ((.astore_n 2, 1, []), []), ((.aload_n 2, 1, []), []), ((.arraylength, 1, []), []), ((.istore_n 3, 1, []), []), ((.iconst 0, 1, []), []), ((.istore 4, 2, []), []), ((.nop, 0, [0, 1642509]), [])]
def b_X0_missing_13 : List (ev_I × List (Nat × Nat)) := [((.nop, 0, [1, 0, 5]), []), ((.iload 4, 2, []), []), ((.iload_n 3, 1, []), []), ((.if_icmp .ge 28, 3, [1642540]), []), ((.aload_n 2, 1, []), []), ((.iload 4, 2, []), []), ((.aaload, 1, []), []), ((.astore 5, 2, []), []), ((.iload_n 1, 1, []), []), ((.aload 5, 2, []), []), ((.ifnonnull 7, 3, [1642531]), []), ((.iconst 1, 1, []), []), ((.goto 4, 3, [1642532]), [])]
def b_X0_missing_35 : List (ev_I × List (Nat × Nat)) := [((.iconst 0, 1, []), []), ((.nop, 0, [0, 1642532]), [])]
def b_X0_missing_36 : List (ev_I × List (Nat × Nat)) := [((.nop, 0, [1, 0, 1, 5]), []), ((.iadd, 1, []), []), ((.istore_n 1, 1, []), []), ((.iinc 4 1, 3, []), []), ((.goto (-28), 3, [1642509]), [])]
def b_X0_missing_44 : List (ev_I × List (Nat × Nat)) := [((.iload_n 1, 1, []), []), ((.ireturn, 1, []), [])]
def tb_X0_missing : List (Nat × List (ev_I × List (Nat × Nat))) := [(0, b_X0_missing_0), (13, b_X0_missing_13), (35, b_X0_missing_35), (36, b_X0_missing_36), (44, b_X0_missing_44)]
def b_X0_count_0 : List (ev_I × List (Nat × Nat)) := [((.iload_n 1, 1, []), []), ((.tableswitch 110 0 8 #[51, 56, 64, 72, 77, 90, 95, 100, 105], 51, [1646703, 1646644, 1646649, 1646657, 1646665, 1646670, 1646683, 1646688, 1646693, 1646698]), [])]
def b_X0_count_52 : List (ev_I × List (Nat × Nat)) := [((.aload_n 0, 1, []), []), ((.getfield 173, 3, [0, 0, 4, 1]), []), ((.ireturn, 1, []), [])]
def b_X0_count_57 : List (ev_I × List (Nat × Nat)) := [((.aload_n 0, 1, []), []), ((.getfield 34, 3, [0, 4, 3, 1]), []), ((.invokevirtual 208, 3, [1, 18, 117]), []), ((.ireturn, 1, []), [])]
def b_X0_count_65 : List (ev_I × List (Nat × Nat)) := [((.aload_n 0, 1, []), []), ((.getfield 41, 3, [0, 4, 5, 1]), []), ((.invokevirtual 155, 3, [1, 19, 73]), []), ((.ireturn, 1, []), [])]
def b_X0_count_73 : List (ev_I × List (Nat × Nat)) := [((.aload_n 0, 1, []), []), ((.getfield 184, 3, [0, 0, 7, 1]), []), ((.ireturn, 1, []), [])]
def b_X0_count_78 : List (ev_I × List (Nat × Nat)) := [((.aload_n 0, 1, []), []), ((.invokevirtual 654, 3, [1, 1, 368]), []), ((.ifCond .eq 7, 3, [1646681]), []), ((.iconst 1, 1, []), []), ((.goto 4, 3, [1646682]), [])]
def b_X0_count_89 : List (ev_I × List (Nat × Nat)) := [((.iconst 0, 1, []), []), ((.nop, 0, [0, 1646682]), [])]
def b_X0_count_90 : List (ev_I × List (Nat × Nat)) := [((.nop, 0, [1, 0, 1]), []), ((.ireturn, 1, []), [])]
def b_X0_count_91 : List (ev_I × List (Nat × Nat)) := [((.aload_n 0, 1, []), []), ((.invokevirtual 681, 3, [1, 1, 400]), []), ((.ireturn, 1, []), [])]
def b_X0_count_96 : List (ev_I × List (Nat × Nat)) := [((.aload_n 0, 1, []), []), ((.getfield 633, 3, [0, 0, 19, 1]), []), ((.ireturn, 1, []), [])]
def b_X0_count_101 : List (ev_I × List (Nat × Nat)) := [((.aload_n 0, 1, []), []), ((.invokevirtual 684, 3, [1, 1, 401]), []), ((.ireturn, 1, []), [])]
def b_X0_count_106 : List (ev_I × List (Nat × Nat)) := [((.aload_n 0, 1, []), []), ((.getfield 96, 3, [0, 0, 0, 1]), []), ((.ireturn, 1, []), [])]
def b_X0_count_111 : List (ev_I × List (Nat × Nat)) := [((.bipush (-2), 2, []), []), ((.ireturn, 1, []), [])]
def tb_X0_count : List (Nat × List (ev_I × List (Nat × Nat))) := [(0, b_X0_count_0), (52, b_X0_count_52), (57, b_X0_count_57), (65, b_X0_count_65), (73, b_X0_count_73), (78, b_X0_count_78), (89, b_X0_count_89), (90, b_X0_count_90), (91, b_X0_count_91), (96, b_X0_count_96), (101, b_X0_count_101), (106, b_X0_count_106), (111, b_X0_count_111)]
def b_X3_missing_0 : List (ev_I × List (Nat × Nat)) := [((.iconst 0, 1, []), []), ((.istore_n 1, 1, []), []), ((.iconst 0, 1, []), []), ((.istore_n 2, 1, []), []), ((.nop, 0, [0, 1650692]), [])]
def b_X3_missing_4 : List (ev_I × List (Nat × Nat)) := [((.iload_n 2, 1, []), []), ((.bipush 6, 2, []), []), ((.if_icmp .ge 27, 3, [1650722]), []), ((.iload_n 1, 1, []), []), ((.aload_n 0, 1, []), []), ((.getfield 7, 3, [0, 4, 0, 2]), []), ((.iload_n 2, 1, []), []), ((.iaload, 1, []), []), ((.iconst (-1), 1, []), []), ((.if_icmp .ne 7, 3, [1650713]), []), ((.iconst 1, 1, []), []), ((.goto 4, 3, [1650714]), [])]
def b_X3_missing_25 : List (ev_I × List (Nat × Nat)) := [((.iconst 0, 1, []), []), ((.nop, 0, [0, 1650714]), [])]
def b_X3_missing_26 : List (ev_I × List (Nat × Nat)) := [((.nop, 0, [1, 1]), []), ((.iadd, 1, []), []), ((.istore_n 1, 1, []), []), ((.iinc 2 1, 3, []), []), ((.goto (-27), 3, [1650692]), [])]
def b_X3_missing_34 : List (ev_I × List (Nat × Nat)) := [((.iload_n 1, 1, []), []), ((.ireturn, 1, []), [])]
def tb_X3_missing : List (Nat × List (ev_I × List (Nat × Nat))) := [(0, b_X3_missing_0), (4, b_X3_missing_4), (25, b_X3_missing_25), (26, b_X3_missing_26), (34, b_X3_missing_34)]
def b_X3_count_0 : List (ev_I × List (Nat × Nat)) := [((.iload_n 1, 1, []), []), ((.tableswitch 104 0 8 #[51, 56, 61, 66, 71, 84, 89, 94, 99], 51, [1654889, 1654836, 1654841, 1654846, 1654851, 1654856, 1654869, 1654874, 1654879, 1654884]), [])]
def b_X3_count_52 : List (ev_I × List (Nat × Nat)) := [((.aload_n 0, 1, []), []), ((.getfield 154, 3, [0, 0, 6, 2]), []), ((.ireturn, 1, []), [])]
def b_X3_count_57 : List (ev_I × List (Nat × Nat)) := [((.aload_n 0, 1, []), []), ((.getfield 171, 3, [0, 0, 7, 2]), []), ((.ireturn, 1, []), [])]
def b_X3_count_62 : List (ev_I × List (Nat × Nat)) := [((.aload_n 0, 1, []), []), ((.getfield 151, 3, [0, 0, 18, 2]), []), ((.ireturn, 1, []), [])]
def b_X3_count_67 : List (ev_I × List (Nat × Nat)) := [((.aload_n 0, 1, []), []), ((.getfield 161, 3, [0, 0, 20, 2]), []), ((.ireturn, 1, []), [])]
def b_X3_count_72 : List (ev_I × List (Nat × Nat)) := [((.aload_n 0, 1, []), []), ((.invokevirtual 407, 3, [1, 2, 378]), []), ((.ifCond .ne 7, 3, [1654867]), []), ((.iconst 1, 1, []), []), ((.goto 4, 3, [1654868]), [])]
def b_X3_count_83 : List (ev_I × List (Nat × Nat)) := [((.iconst 0, 1, []), []), ((.nop, 0, [0, 1654868]), [])]
def b_X3_count_84 : List (ev_I × List (Nat × Nat)) := [((.nop, 0, [1, 0, 1]), []), ((.ireturn, 1, []), [])]
def b_X3_count_85 : List (ev_I × List (Nat × Nat)) := [((.aload_n 0, 1, []), []), ((.invokevirtual 407, 3, [1, 2, 378]), []), ((.ireturn, 1, []), [])]
def b_X3_count_90 : List (ev_I × List (Nat × Nat)) := [((.aload_n 0, 1, []), []), ((.getfield 377, 3, [0, 0, 34, 2]), []), ((.ireturn, 1, []), [])]
def b_X3_count_95 : List (ev_I × List (Nat × Nat)) := [((.aload_n 0, 1, []), []), ((.invokevirtual 420, 3, [1, 2, 403]), []), ((.ireturn, 1, []), [])]
def b_X3_count_100 : List (ev_I × List (Nat × Nat)) := [((.aload_n 0, 1, []), []), ((.getfield 110, 3, [0, 0, 4, 2]), []), ((.ireturn, 1, []), [])]
def b_X3_count_105 : List (ev_I × List (Nat × Nat)) := [((.bipush (-2), 2, []), []), ((.ireturn, 1, []), [])]
def tb_X3_count : List (Nat × List (ev_I × List (Nat × Nat))) := [(0, b_X3_count_0), (52, b_X3_count_52), (57, b_X3_count_57), (62, b_X3_count_62), (67, b_X3_count_67), (72, b_X3_count_72), (83, b_X3_count_83), (84, b_X3_count_84), (85, b_X3_count_85), (90, b_X3_count_90), (95, b_X3_count_95), (100, b_X3_count_100), (105, b_X3_count_105)]
def b_X0_tellsOf_0 : List (ev_I × List (Nat × Nat)) := [((.lload_n 1, 1, []), []), ((.lstore 4, 2, []), []), ((.iconst 0, 1, []), []), ((.istore 6, 2, []), []), ((.nop, 0, [0, 1658886]), [])]
def b_X0_tellsOf_6 : List (ev_I × List (Nat × Nat)) := [((.nop, 0, [1, 1, 2, 7, 8]), []), ((.iload 6, 2, []), []), ((.bipush 7, 2, []), []), ((.if_icmp .ge 35, 3, [1658925]), []), ((.ldc2_w 687, 3, [0, 0, 31]), []), ((.lload 4, 2, []), []), ((.lmul, 1, []), []), ((.aload_n 0, 1, []), []), ((.getfield 34, 3, [0, 4, 3, 1]), []), ((.iload_n 3, 1, []), []), ((.invokevirtual 230, 3, [2, 18, 133]), []), ((.checkcast 209, 3, [1, 5]), []), ((.iload 6, 2, []), []), ((.invokevirtual 299, 3, [2, 5, 169]), []), ((.i2l, 1, []), []), ((.ladd, 1, []), []), ((.lstore 4, 2, []), []), ((.iinc 6 1, 3, []), []), ((.goto (-36), 3, [1658886]), [])]
def b_X0_tellsOf_45 : List (ev_I × List (Nat × Nat)) := [((.iconst 0, 1, []), []), ((.istore 6, 2, []), []), ((.nop, 0, [0, 1658928]), [])]
def b_X0_tellsOf_48 : List (ev_I × List (Nat × Nat)) := [((.nop, 0, [1, 1, 2, 7, 8]), []), ((.iload 6, 2, []), []), ((.iconst 2, 1, []), []), ((.if_icmp .gt 116, 3, [1659047]), []), ((.iconst 0, 1, []), []), ((.istore 7, 2, []), []), ((.nop, 0, [0, 1658937]), [])]
def b_X0_tellsOf_57 : List (ev_I × List (Nat × Nat)) := [((.nop, 0, [1, 1, 2, 8]), []), ((.iload 7, 2, []), []), ((.iconst 4, 1, []), []), ((.if_icmp .ge 40, 3, [1658980]), []), ((.ldc2_w 687, 3, [0, 0, 31]), []), ((.lload 4, 2, []), []), ((.lmul, 1, []), []), ((.aload_n 0, 1, []), []), ((.getfield 34, 3, [0, 4, 3, 1]), []), ((.iload_n 3, 1, []), []), ((.invokevirtual 230, 3, [2, 18, 133]), []), ((.checkcast 209, 3, [1, 5]), []), ((.iload 6, 2, []), []), ((.invokevirtual 233, 3, [2, 5, 134]), []), ((.iload 7, 2, []), []), ((.invokevirtual 303, 3, [2, 6, 178]), []), ((.i2l, 1, []), []), ((.ladd, 1, []), []), ((.lstore 4, 2, []), []), ((.iinc 7 1, 3, []), []), ((.goto (-40), 3, [1658937]), [])]
def b_X0_tellsOf_100 : List (ev_I × List (Nat × Nat)) := [((.iconst 3, 1, []), []), ((.iload_n 3, 1, []), []), ((.imul, 1, []), []), ((.iload 6, 2, []), []), ((.iadd, 1, []), []), ((.istore 7, 2, []), []), ((.iconst 0, 1, []), []), ((.istore 8, 2, []), []), ((.nop, 0, [0, 1658991]), [])]
def b_X0_tellsOf_111 : List (ev_I × List (Nat × Nat)) := [((.nop, 0, [1, 1, 2]), []), ((.iload 8, 2, []), []), ((.iconst 3, 1, []), []), ((.if_icmp .ge 47, 3, [1659041]), []), ((.aload_n 0, 1, []), []), ((.getfield 173, 3, [0, 0, 4, 1]), []), ((.ifCond .le 40, 3, [1659041]), []), ((.aload_n 0, 1, []), []), ((.iload 7, 2, []), []), ((.invokevirtual 317, 3, [2, 1, 183]), []), ((.ifCond .eq 31, 3, [1659041]), []), ((.ldc2_w 687, 3, [0, 0, 31]), []), ((.lload 4, 2, []), []), ((.lmul, 1, []), []), ((.aload_n 0, 1, []), []), ((.iload 7, 2, []), []), ((.iconst 0, 1, []), []), ((.invokevirtual 323, 3, [3, 1, 190]), []), ((.iload 8, 2, []), []), ((.invokevirtual 327, 3, [2, 7, 191]), []), ((.i2l, 1, []), []), ((.ladd, 1, []), []), ((.lstore 4, 2, []), []), ((.iinc 8 1, 3, []), []), ((.goto (-47), 3, [1658991]), [])]
def b_X0_tellsOf_161 : List (ev_I × List (Nat × Nat)) := [((.nop, 0, [1, 1, 2, 7, 8]), []), ((.iinc 6 1, 3, []), []), ((.goto (-116), 3, [1658928]), [])]
def b_X0_tellsOf_167 : List (ev_I × List (Nat × Nat)) := [((.iconst 0, 1, []), []), ((.istore 6, 2, []), []), ((.nop, 0, [0, 1659050]), [])]
def b_X0_tellsOf_170 : List (ev_I × List (Nat × Nat)) := [((.nop, 0, [1, 1, 2, 7, 8]), []), ((.iload 6, 2, []), []), ((.bipush 6, 2, []), []), ((.if_icmp .ge 29, 3, [1659083]), []), ((.ldc2_w 687, 3, [0, 0, 31]), []), ((.lload 4, 2, []), []), ((.lmul, 1, []), []), ((.aload_n 0, 1, []), []), ((.iload_n 3, 1, []), []), ((.iload 6, 2, []), []), ((.invokevirtual 360, 3, [3, 1, 211]), []), ((.invokevirtual 364, 3, [1, 12, 212]), []), ((.i2l, 1, []), []), ((.ladd, 1, []), []), ((.lstore 4, 2, []), []), ((.iinc 6 1, 3, []), []), ((.goto (-30), 3, [1659050]), [])]
def b_X0_tellsOf_203 : List (ev_I × List (Nat × Nat)) := [((.lload 4, 2, []), []), ((.lreturn, 1, []), [])]
def tb_X0_tellsOf : List (Nat × List (ev_I × List (Nat × Nat))) := [(0, b_X0_tellsOf_0), (6, b_X0_tellsOf_6), (45, b_X0_tellsOf_45), (48, b_X0_tellsOf_48), (57, b_X0_tellsOf_57), (100, b_X0_tellsOf_100), (111, b_X0_tellsOf_111), (161, b_X0_tellsOf_161), (167, b_X0_tellsOf_167), (170, b_X0_tellsOf_170), (203, b_X0_tellsOf_203)]
def b_X0_tellsRow_0 : List (ev_I × List (Nat × Nat)) := [((.ldc2_w 687, 3, [0, 0, 31]), []), ((.lload_n 1, 1, []), []), ((.lmul, 1, []), []), ((.aload_n 0, 1, []), []), ((.iload_n 3, 1, []), []), ((.invokevirtual 502, 3, [2, 1, 272]), []), ((.i2l, 1, []), []), ((.ladd, 1, []), []), ((.lstore 4, 2, []), []), ((.iconst 0, 1, []), []), ((.istore 6, 2, []), []), ((.nop, 0, [0, 1662993]), [])]
def b_X0_tellsRow_17 : List (ev_I × List (Nat × Nat)) := [((.nop, 0, [1, 1, 2, 7]), []), ((.iload 6, 2, []), []), ((.iconst 3, 1, []), []), ((.if_icmp .ge 26, 3, [1663022]), []), ((.ldc2_w 687, 3, [0, 0, 31]), []), ((.lload 4, 2, []), []), ((.lmul, 1, []), []), ((.aload_n 0, 1, []), []), ((.iload_n 3, 1, []), []), ((.iload 6, 2, []), []), ((.invokevirtual 509, 3, [3, 1, 285]), []), ((.i2l, 1, []), []), ((.ladd, 1, []), []), ((.lstore 4, 2, []), []), ((.iinc 6 1, 3, []), []), ((.goto (-26), 3, [1662993]), [])]
def b_X0_tellsRow_46 : List (ev_I × List (Nat × Nat)) := [((.iconst 0, 1, []), []), ((.istore 6, 2, []), []), ((.nop, 0, [0, 1663025]), [])]
def b_X0_tellsRow_49 : List (ev_I × List (Nat × Nat)) := [((.nop, 0, [1, 1, 2, 7]), []), ((.iload 6, 2, []), []), ((.iconst 4, 1, []), []), ((.if_icmp .ge 91, 3, [1663119]), []), ((.ldc2_w 687, 3, [0, 0, 31]), []), ((.lload 4, 2, []), []), ((.lmul, 1, []), []), ((.aload_n 0, 1, []), []), ((.iload 6, 2, []), []), ((.iload_n 3, 1, []), []), ((.iconst (-1), 1, []), []), ((.invokevirtual 452, 3, [4, 1, 241]), []), ((.invokestatic 456, 3, [242, 1]), []), ((.i2l, 1, []), []), ((.ladd, 1, []), []), ((.lstore 4, 2, []), []), ((.ldc2_w 687, 3, [0, 0, 31]), []), ((.lload 4, 2, []), []), ((.lmul, 1, []), []), ((.aload_n 0, 1, []), []), ((.iload 6, 2, []), []), ((.iload_n 3, 1, []), []), ((.iconst (-1), 1, []), []), ((.invokevirtual 452, 3, [4, 1, 241]), []), ((.invokestatic 479, 3, [258, 1]), []), ((.i2l, 1, []), []), ((.ladd, 1, []), []), ((.lstore 4, 2, []), []), ((.iconst 0, 1, []), []), ((.istore 7, 2, []), []), ((.nop, 0, [0, 1663076]), [])]
def b_X0_tellsRow_100 : List (ev_I × List (Nat × Nat)) := [((.nop, 0, [1, 1, 2]), []), ((.iload 7, 2, []), []), ((.aload_n 0, 1, []), []), ((.getfield 173, 3, [0, 0, 4, 1]), []), ((.if_icmp .ge 31, 3, [1663113]), []), ((.ldc2_w 687, 3, [0, 0, 31]), []), ((.lload 4, 2, []), []), ((.lmul, 1, []), []), ((.aload_n 0, 1, []), []), ((.iload 6, 2, []), []), ((.iload_n 3, 1, []), []), ((.iload 7, 2, []), []), ((.invokevirtual 452, 3, [4, 1, 241]), []), ((.invokestatic 456, 3, [242, 1]), []), ((.i2l, 1, []), []), ((.ladd, 1, []), []), ((.lstore 4, 2, []), []), ((.iinc 7 1, 3, []), []), ((.goto (-34), 3, [1663076]), [])]
def b_X0_tellsRow_137 : List (ev_I × List (Nat × Nat)) := [((.iinc 6 1, 3, []), []), ((.goto (-91), 3, [1663025]), [])]
def b_X0_tellsRow_143 : List (ev_I × List (Nat × Nat)) := [((.lload 4, 2, []), []), ((.lreturn, 1, []), [])]
def tb_X0_tellsRow : List (Nat × List (ev_I × List (Nat × Nat))) := [(0, b_X0_tellsRow_0), (17, b_X0_tellsRow_17), (46, b_X0_tellsRow_46), (49, b_X0_tellsRow_49), (100, b_X0_tellsRow_100), (137, b_X0_tellsRow_137), (143, b_X0_tellsRow_143)]
def b_X0_tellsCells_0 : List (ev_I × List (Nat × Nat)) := [((.lload_n 1, 1, []), []), ((.lstore 4, 2, []), []), ((.iconst 0, 1, []), []), ((.istore 6, 2, []), []), ((.nop, 0, [0, 1667078]), [])]
def b_X0_tellsCells_6 : List (ev_I × List (Nat × Nat)) := [((.nop, 0, [1, 1, 2]), []), ((.iload 6, 2, []), []), ((.aload_n 0, 1, []), []), ((.getfield 25, 3, [0, 4, 2, 1]), []), ((.iload_n 3, 1, []), []), ((.aaload, 1, []), []), ((.getfield 121, 3, [1, 0, 2, 4]), []), ((.if_icmp .ge 95, 3, [1667184]), []), ((.ldc2_w 687, 3, [0, 0, 31]), []), ((.lload 4, 2, []), []), ((.lmul, 1, []), []), ((.aload_n 0, 1, []), []), ((.getfield 25, 3, [0, 4, 2, 1]), []), ((.iload_n 3, 1, []), []), ((.aaload, 1, []), []), ((.iload 6, 2, []), []), ((.invokevirtual 138, 3, [2, 4, 63]), []), ((.ladd, 1, []), []), ((.lstore 4, 2, []), []), ((.ldc2_w 687, 3, [0, 0, 31]), []), ((.lload 4, 2, []), []), ((.lmul, 1, []), []), ((.aload_n 0, 1, []), []), ((.getfield 25, 3, [0, 4, 2, 1]), []), ((.iload_n 3, 1, []), []), ((.aaload, 1, []), []), ((.getfield 551, 3, [1, 4, 3, 4]), []), ((.iload 6, 2, []), []), ((.iaload, 1, []), []), ((.i2l, 1, []), []), ((.ladd, 1, []), []), ((.lstore 4, 2, []), []), ((.ldc2_w 687, 3, [0, 0, 31]), []), ((.lload 4, 2, []), []), ((.lmul, 1, []), []), ((.aload_n 0, 1, []), []), ((.iconst 1, 1, []), []), ((.iload_n 3, 1, []), []), ((.iload 6, 2, []), []), ((.aload_n 0, 1, []), []), ((.getfield 173, 3, [0, 0, 4, 1]), []), ((.invokevirtual 505, 3, [5, 1, 284]), []), ((.i2l, 1, []), []), ((.ladd, 1, []), []), ((.lstore 4, 2, []), []), ((.ldc2_w 687, 3, [0, 0, 31]), []), ((.lload 4, 2, []), []), ((.lmul, 1, []), []), ((.aload_n 0, 1, []), []), ((.iconst 2, 1, []), []), ((.iload_n 3, 1, []), []), ((.iload 6, 2, []), []), ((.aload_n 0, 1, []), []), ((.getfield 173, 3, [0, 0, 4, 1]), []), ((.invokevirtual 505, 3, [5, 1, 284]), []), ((.i2l, 1, []), []), ((.ladd, 1, []), []), ((.lstore 4, 2, []), []), ((.iinc 6 1, 3, []), []), ((.goto (-103), 3, [1667078]), [])]
def b_X0_tellsCells_112 : List (ev_I × List (Nat × Nat)) := [((.lload 4, 2, []), []), ((.lreturn, 1, []), [])]
def tb_X0_tellsCells : List (Nat × List (ev_I × List (Nat × Nat))) := [(0, b_X0_tellsCells_0), (6, b_X0_tellsCells_6), (112, b_X0_tellsCells_112)]
def b_X0_digest_0 : List (ev_I × List (Nat × Nat)) := [((.ldc2_w 689, 3, [0, 0, 17]), []), ((.lstore_n 1, 1, []), []), ((.iconst 0, 1, []), []), ((.istore_n 3, 1, []), []), ((.nop, 0, [0, 1671174]), [])]
def b_X0_digest_6 : List (ev_I × List (Nat × Nat)) := [((.iload_n 3, 1, []), []), ((.bipush 8, 2, []), []), ((.if_icmp .ge 22, 3, [1671199]), []), ((.ldc2_w 687, 3, [0, 0, 31]), []), ((.lload_n 1, 1, []), []), ((.lmul, 1, []), []), ((.aload_n 0, 1, []), []), ((.iload_n 3, 1, []), []), ((.invokevirtual 691, 3, [2, 1, 402]), []), ((.i2l, 1, []), []), ((.ladd, 1, []), []), ((.lstore_n 1, 1, []), []), ((.iinc 3 1, 3, []), []), ((.goto (-22), 3, [1671174]), [])]
def b_X0_digest_31 : List (ev_I × List (Nat × Nat)) := [((.iconst 0, 1, []), []), ((.istore_n 3, 1, []), []), ((.nop, 0, [0, 1671201]), [])]
def b_X0_digest_33 : List (ev_I × List (Nat × Nat)) := [((.iload_n 3, 1, []), []), ((.aload_n 0, 1, []), []), ((.getfield 34, 3, [0, 4, 3, 1]), []), ((.invokevirtual 208, 3, [1, 18, 117]), []), ((.if_icmp .ge 16, 3, [1671225]), []), ((.aload_n 0, 1, []), []), ((.lload_n 1, 1, []), []), ((.iload_n 3, 1, []), []), ((.invokevirtual 693, 3, [3, 1, 405]), []), ((.lstore_n 1, 1, []), []), ((.iinc 3 1, 3, []), []), ((.goto (-21), 3, [1671201]), [])]
def b_X0_digest_57 : List (ev_I × List (Nat × Nat)) := [((.aload_n 0, 1, []), []), ((.invokevirtual 449, 3, [1, 1, 240]), []), ((.iconst 0, 1, []), []), ((.istore_n 3, 1, []), []), ((.nop, 0, [0, 1671231]), [])]
def b_X0_digest_63 : List (ev_I × List (Nat × Nat)) := [((.iload_n 3, 1, []), []), ((.bipush 6, 2, []), []), ((.if_icmp .ge 16, 3, [1671250]), []), ((.aload_n 0, 1, []), []), ((.lload_n 1, 1, []), []), ((.iload_n 3, 1, []), []), ((.invokevirtual 697, 3, [3, 1, 406]), []), ((.lstore_n 1, 1, []), []), ((.iinc 3 1, 3, []), []), ((.goto (-16), 3, [1671231]), [])]
def b_X0_digest_82 : List (ev_I × List (Nat × Nat)) := [((.iconst 0, 1, []), []), ((.istore_n 3, 1, []), []), ((.nop, 0, [0, 1671252]), [])]
def b_X0_digest_84 : List (ev_I × List (Nat × Nat)) := [((.iload_n 3, 1, []), []), ((.bipush 6, 2, []), []), ((.if_icmp .ge 25, 3, [1671280]), []), ((.aload_n 0, 1, []), []), ((.getfield 25, 3, [0, 4, 2, 1]), []), ((.iload_n 3, 1, []), []), ((.aaload, 1, []), []), ((.ifnull 10, 3, [1671274]), []), ((.aload_n 0, 1, []), []), ((.lload_n 1, 1, []), []), ((.iload_n 3, 1, []), []), ((.invokevirtual 700, 3, [3, 1, 407]), []), ((.lstore_n 1, 1, []), []), ((.nop, 0, [0, 1671274]), [])]
def b_X0_digest_106 : List (ev_I × List (Nat × Nat)) := [((.iinc 3 1, 3, []), []), ((.goto (-25), 3, [1671252]), [])]
def b_X0_digest_112 : List (ev_I × List (Nat × Nat)) := [((.iconst 0, 1, []), []), ((.istore_n 3, 1, []), []), ((.nop, 0, [0, 1671282]), [])]
def b_X0_digest_114 : List (ev_I × List (Nat × Nat)) := [((.iload_n 3, 1, []), []), ((.iconst 3, 1, []), []), ((.if_icmp .ge 23, 3, [1671307]), []), ((.ldc2_w 687, 3, [0, 0, 31]), []), ((.lload_n 1, 1, []), []), ((.lmul, 1, []), []), ((.aload_n 0, 1, []), []), ((.getfield 74, 3, [0, 4, 16, 1]), []), ((.iload_n 3, 1, []), []), ((.iaload, 1, []), []), ((.i2l, 1, []), []), ((.ladd, 1, []), []), ((.lstore_n 1, 1, []), []), ((.iinc 3 1, 3, []), []), ((.goto (-22), 3, [1671282]), [])]
def b_X0_digest_139 : List (ev_I × List (Nat × Nat)) := [((.iconst 0, 1, []), []), ((.istore_n 3, 1, []), []), ((.nop, 0, [0, 1671309]), [])]
def b_X0_digest_141 : List (ev_I × List (Nat × Nat)) := [((.iload_n 3, 1, []), []), ((.bipush 10, 2, []), []), ((.if_icmp .ge 22, 3, [1671334]), []), ((.ldc2_w 687, 3, [0, 0, 31]), []), ((.lload_n 1, 1, []), []), ((.lmul, 1, []), []), ((.aload_n 0, 1, []), []), ((.iload_n 3, 1, []), []), ((.invokevirtual 678, 3, [2, 1, 395]), []), ((.i2l, 1, []), []), ((.ladd, 1, []), []), ((.lstore_n 1, 1, []), []), ((.iinc 3 1, 3, []), []), ((.goto (-22), 3, [1671309]), [])]
def b_X0_digest_166 : List (ev_I × List (Nat × Nat)) := [((.lload_n 1, 1, []), []), ((.lreturn, 1, []), [])]
def tb_X0_digest : List (Nat × List (ev_I × List (Nat × Nat))) := [(0, b_X0_digest_0), (6, b_X0_digest_6), (31, b_X0_digest_31), (33, b_X0_digest_33), (57, b_X0_digest_57), (63, b_X0_digest_63), (82, b_X0_digest_82), (84, b_X0_digest_84), (106, b_X0_digest_106), (112, b_X0_digest_112), (114, b_X0_digest_114), (139, b_X0_digest_139), (141, b_X0_digest_141), (166, b_X0_digest_166)]
def b_X3_statementDigest_0 : List (ev_I × List (Nat × Nat)) := [((.lload_n 1, 1, []), []), ((.lstore 4, 2, []), []), ((.iconst 0, 1, []), []), ((.istore 6, 2, []), []), ((.nop, 0, [0, 1675270]), [])]
def b_X3_statementDigest_6 : List (ev_I × List (Nat × Nat)) := [((.nop, 0, [1, 1, 2, 7]), []), ((.iload 6, 2, []), []), ((.bipush 7, 2, []), []), ((.if_icmp .ge 26, 3, [1675300]), []), ((.ldc2_w 423, 3, [0, 0, 31]), []), ((.lload 4, 2, []), []), ((.lmul, 1, []), []), ((.aload_n 0, 1, []), []), ((.iload_n 3, 1, []), []), ((.iload 6, 2, []), []), ((.invokevirtual 194, 3, [3, 2, 176]), []), ((.i2l, 1, []), []), ((.ladd, 1, []), []), ((.lstore 4, 2, []), []), ((.iinc 6 1, 3, []), []), ((.goto (-27), 3, [1675270]), [])]
def b_X3_statementDigest_36 : List (ev_I × List (Nat × Nat)) := [((.iconst 3, 1, []), []), ((.iload_n 3, 1, []), []), ((.imul, 1, []), []), ((.istore 6, 2, []), []), ((.nop, 0, [0, 1675305]), [])]
def b_X3_statementDigest_41 : List (ev_I × List (Nat × Nat)) := [((.nop, 0, [1, 1, 2, 7]), []), ((.iload 6, 2, []), []), ((.iconst 3, 1, []), []), ((.iload_n 3, 1, []), []), ((.imul, 1, []), []), ((.iconst 3, 1, []), []), ((.iadd, 1, []), []), ((.if_icmp .ge 94, 3, [1675406]), []), ((.iconst 0, 1, []), []), ((.istore 7, 2, []), []), ((.nop, 0, [0, 1675318]), [])]
def b_X3_statementDigest_54 : List (ev_I × List (Nat × Nat)) := [((.nop, 0, [1, 1, 2]), []), ((.iload 7, 2, []), []), ((.iconst 4, 1, []), []), ((.if_icmp .ge 27, 3, [1675348]), []), ((.ldc2_w 423, 3, [0, 0, 31]), []), ((.lload 4, 2, []), []), ((.lmul, 1, []), []), ((.aload_n 0, 1, []), []), ((.iload 6, 2, []), []), ((.iload 7, 2, []), []), ((.invokevirtual 197, 3, [3, 2, 180]), []), ((.i2l, 1, []), []), ((.ladd, 1, []), []), ((.lstore 4, 2, []), []), ((.iinc 7 1, 3, []), []), ((.goto (-27), 3, [1675318]), [])]
def b_X3_statementDigest_84 : List (ev_I × List (Nat × Nat)) := [((.iconst 0, 1, []), []), ((.istore 7, 2, []), []), ((.nop, 0, [0, 1675351]), [])]
def b_X3_statementDigest_87 : List (ev_I × List (Nat × Nat)) := [((.nop, 0, [1, 1, 2]), []), ((.iload 7, 2, []), []), ((.iconst 3, 1, []), []), ((.if_icmp .ge 46, 3, [1675400]), []), ((.aload_n 0, 1, []), []), ((.getfield 41, 3, [0, 4, 13, 2]), []), ((.iload 6, 2, []), []), ((.iaload, 1, []), []), ((.iconst (-1), 1, []), []), ((.if_icmp .eq 35, 3, [1675400]), []), ((.aload_n 0, 1, []), []), ((.getfield 154, 3, [0, 0, 6, 2]), []), ((.ifCond .le 28, 3, [1675400]), []), ((.ldc2_w 423, 3, [0, 0, 31]), []), ((.lload 4, 2, []), []), ((.lmul, 1, []), []), ((.aload_n 0, 1, []), []), ((.iload 6, 2, []), []), ((.iconst 0, 1, []), []), ((.iload 7, 2, []), []), ((.invokevirtual 215, 3, [4, 2, 198]), []), ((.i2l, 1, []), []), ((.ladd, 1, []), []), ((.lstore 4, 2, []), []), ((.iinc 7 1, 3, []), []), ((.goto (-46), 3, [1675351]), [])]
def b_X3_statementDigest_136 : List (ev_I × List (Nat × Nat)) := [((.nop, 0, [1, 1, 2, 7]), []), ((.iinc 6 1, 3, []), []), ((.goto (-98), 3, [1675305]), [])]
def b_X3_statementDigest_142 : List (ev_I × List (Nat × Nat)) := [((.iconst 0, 1, []), []), ((.istore 6, 2, []), []), ((.nop, 0, [0, 1675409]), [])]
def b_X3_statementDigest_145 : List (ev_I × List (Nat × Nat)) := [((.nop, 0, [1, 1, 2, 7]), []), ((.iload 6, 2, []), []), ((.bipush 6, 2, []), []), ((.if_icmp .ge 26, 3, [1675439]), []), ((.ldc2_w 423, 3, [0, 0, 31]), []), ((.lload 4, 2, []), []), ((.lmul, 1, []), []), ((.aload_n 0, 1, []), []), ((.iload_n 3, 1, []), []), ((.iload 6, 2, []), []), ((.invokevirtual 239, 3, [3, 2, 217]), []), ((.i2l, 1, []), []), ((.ladd, 1, []), []), ((.lstore 4, 2, []), []), ((.iinc 6 1, 3, []), []), ((.goto (-27), 3, [1675409]), [])]
def b_X3_statementDigest_175 : List (ev_I × List (Nat × Nat)) := [((.lload 4, 2, []), []), ((.lreturn, 1, []), [])]
def tb_X3_statementDigest : List (Nat × List (ev_I × List (Nat × Nat))) := [(0, b_X3_statementDigest_0), (6, b_X3_statementDigest_6), (36, b_X3_statementDigest_36), (41, b_X3_statementDigest_41), (54, b_X3_statementDigest_54), (84, b_X3_statementDigest_84), (87, b_X3_statementDigest_87), (136, b_X3_statementDigest_136), (142, b_X3_statementDigest_142), (145, b_X3_statementDigest_145), (175, b_X3_statementDigest_175)]
def b_X3_rowDigest_0 : List (ev_I × List (Nat × Nat)) := [((.ldc2_w 423, 3, [0, 0, 31]), []), ((.lload_n 1, 1, []), []), ((.lmul, 1, []), []), ((.aload_n 0, 1, []), []), ((.iload_n 3, 1, []), []), ((.invokevirtual 313, 3, [2, 2, 280]), []), ((.i2l, 1, []), []), ((.ladd, 1, []), []), ((.lstore 4, 2, []), []), ((.iconst 0, 1, []), []), ((.istore 6, 2, []), []), ((.nop, 0, [0, 1679377]), [])]
def b_X3_rowDigest_17 : List (ev_I × List (Nat × Nat)) := [((.nop, 0, [1, 1, 2, 7, 8]), []), ((.iload 6, 2, []), []), ((.iconst 3, 1, []), []), ((.if_icmp .ge 26, 3, [1679406]), []), ((.ldc2_w 423, 3, [0, 0, 31]), []), ((.lload 4, 2, []), []), ((.lmul, 1, []), []), ((.aload_n 0, 1, []), []), ((.iload_n 3, 1, []), []), ((.iload 6, 2, []), []), ((.invokevirtual 316, 3, [3, 2, 287]), []), ((.i2l, 1, []), []), ((.ladd, 1, []), []), ((.lstore 4, 2, []), []), ((.iinc 6 1, 3, []), []), ((.goto (-26), 3, [1679377]), [])]
def b_X3_rowDigest_46 : List (ev_I × List (Nat × Nat)) := [((.iconst 0, 1, []), []), ((.istore 6, 2, []), []), ((.nop, 0, [0, 1679409]), [])]
def b_X3_rowDigest_49 : List (ev_I × List (Nat × Nat)) := [((.nop, 0, [1, 1, 2, 7, 8]), []), ((.iload 6, 2, []), []), ((.iconst 4, 1, []), []), ((.if_icmp .ge 90, 3, [1679502]), []), ((.aload_n 0, 1, []), []), ((.iload 6, 2, []), []), ((.iload_n 3, 1, []), []), ((.iconst (-1), 1, []), []), ((.invokevirtual 268, 3, [4, 2, 251]), []), ((.istore 7, 2, []), []), ((.ldc2_w 423, 3, [0, 0, 31]), []), ((.lload 4, 2, []), []), ((.lmul, 1, []), []), ((.iload 7, 2, []), []), ((.invokestatic 271, 3, [252, 1]), []), ((.i2l, 1, []), []), ((.ladd, 1, []), []), ((.lstore 4, 2, []), []), ((.ldc2_w 423, 3, [0, 0, 31]), []), ((.lload 4, 2, []), []), ((.lmul, 1, []), []), ((.aload_n 0, 1, []), []), ((.iload 7, 2, []), []), ((.invokevirtual 289, 3, [2, 2, 262]), []), ((.i2l, 1, []), []), ((.ladd, 1, []), []), ((.lstore 4, 2, []), []), ((.iconst 0, 1, []), []), ((.istore 8, 2, []), []), ((.nop, 0, [0, 1679459]), [])]
def b_X3_rowDigest_99 : List (ev_I × List (Nat × Nat)) := [((.nop, 0, [1, 1, 2, 7]), []), ((.iload 8, 2, []), []), ((.aload_n 0, 1, []), []), ((.getfield 154, 3, [0, 0, 6, 2]), []), ((.if_icmp .ge 31, 3, [1679496]), []), ((.ldc2_w 423, 3, [0, 0, 31]), []), ((.lload 4, 2, []), []), ((.lmul, 1, []), []), ((.aload_n 0, 1, []), []), ((.iload 6, 2, []), []), ((.iload_n 3, 1, []), []), ((.iload 8, 2, []), []), ((.invokevirtual 262, 3, [4, 2, 250]), []), ((.invokestatic 271, 3, [252, 1]), []), ((.i2l, 1, []), []), ((.ladd, 1, []), []), ((.lstore 4, 2, []), []), ((.iinc 8 1, 3, []), []), ((.goto (-34), 3, [1679459]), [])]
def b_X3_rowDigest_136 : List (ev_I × List (Nat × Nat)) := [((.iinc 6 1, 3, []), []), ((.goto (-90), 3, [1679409]), [])]
def b_X3_rowDigest_142 : List (ev_I × List (Nat × Nat)) := [((.lload 4, 2, []), []), ((.lreturn, 1, []), [])]
def tb_X3_rowDigest : List (Nat × List (ev_I × List (Nat × Nat))) := [(0, b_X3_rowDigest_0), (17, b_X3_rowDigest_17), (46, b_X3_rowDigest_46), (49, b_X3_rowDigest_49), (99, b_X3_rowDigest_99), (136, b_X3_rowDigest_136), (142, b_X3_rowDigest_142)]
def b_X3_cellsDigest_0 : List (ev_I × List (Nat × Nat)) := [((.lload_n 1, 1, []), []), ((.lstore 4, 2, []), []), ((.iconst 0, 1, []), []), ((.istore 6, 2, []), []), ((.nop, 0, [0, 1683462]), [])]
def b_X3_cellsDigest_6 : List (ev_I × List (Nat × Nat)) := [((.nop, 0, [1, 1, 2]), []), ((.iload 6, 2, []), []), ((.aload_n 0, 1, []), []), ((.getfield 13, 3, [0, 4, 1, 2]), []), ((.iload_n 3, 1, []), []), ((.iaload, 1, []), []), ((.if_icmp .ge 97, 3, [1683567]), []), ((.aload_n 0, 1, []), []), ((.getfield 7, 3, [0, 4, 0, 2]), []), ((.iload_n 3, 1, []), []), ((.iaload, 1, []), []), ((.iconst (-1), 1, []), []), ((.if_icmp .eq 87, 3, [1683567]), []), ((.ldc2_w 423, 3, [0, 0, 31]), []), ((.lload 4, 2, []), []), ((.lmul, 1, []), []), ((.aload_n 0, 1, []), []), ((.bipush 24, 2, []), []), ((.iload_n 3, 1, []), []), ((.imul, 1, []), []), ((.iload 6, 2, []), []), ((.iadd, 1, []), []), ((.invokevirtual 148, 3, [2, 2, 68]), []), ((.ladd, 1, []), []), ((.lstore 4, 2, []), []), ((.ldc2_w 423, 3, [0, 0, 31]), []), ((.lload 4, 2, []), []), ((.lmul, 1, []), []), ((.aload_n 0, 1, []), []), ((.getfield 20, 3, [0, 4, 3, 2]), []), ((.bipush 24, 2, []), []), ((.iload_n 3, 1, []), []), ((.imul, 1, []), []), ((.iload 6, 2, []), []), ((.iadd, 1, []), []), ((.iaload, 1, []), []), ((.i2l, 1, []), []), ((.ladd, 1, []), []), ((.lstore 4, 2, []), []), ((.ldc2_w 423, 3, [0, 0, 31]), []), ((.lload 4, 2, []), []), ((.lmul, 1, []), []), ((.aload_n 0, 1, []), []), ((.iconst 1, 1, []), []), ((.iload_n 3, 1, []), []), ((.iload 6, 2, []), []), ((.invokevirtual 319, 3, [4, 2, 290]), []), ((.i2l, 1, []), []), ((.ladd, 1, []), []), ((.lstore 4, 2, []), []), ((.ldc2_w 423, 3, [0, 0, 31]), []), ((.lload 4, 2, []), []), ((.lmul, 1, []), []), ((.aload_n 0, 1, []), []), ((.iconst 2, 1, []), []), ((.iload_n 3, 1, []), []), ((.iload 6, 2, []), []), ((.invokevirtual 319, 3, [4, 2, 290]), []), ((.i2l, 1, []), []), ((.ladd, 1, []), []), ((.lstore 4, 2, []), []), ((.iinc 6 1, 3, []), []), ((.goto (-102), 3, [1683462]), [])]
def b_X3_cellsDigest_111 : List (ev_I × List (Nat × Nat)) := [((.nop, 0, [1, 0, 1, 2, 3, 6]), []), ((.lload 4, 2, []), []), ((.lreturn, 1, []), [])]
def tb_X3_cellsDigest : List (Nat × List (ev_I × List (Nat × Nat))) := [(0, b_X3_cellsDigest_0), (6, b_X3_cellsDigest_6), (111, b_X3_cellsDigest_111)]
def b_X3_digest_0 : List (ev_I × List (Nat × Nat)) := [((.ldc2_w 425, 3, [0, 0, 17]), []), ((.lstore_n 1, 1, []), []), ((.iconst 0, 1, []), []), ((.istore_n 3, 1, []), []), ((.nop, 0, [0, 1687558]), [])]
def b_X3_digest_6 : List (ev_I × List (Nat × Nat)) := [((.iload_n 3, 1, []), []), ((.bipush 8, 2, []), []), ((.if_icmp .ge 22, 3, [1687583]), []), ((.ldc2_w 423, 3, [0, 0, 31]), []), ((.lload_n 1, 1, []), []), ((.lmul, 1, []), []), ((.aload_n 0, 1, []), []), ((.iload_n 3, 1, []), []), ((.invokevirtual 427, 3, [2, 2, 404]), []), ((.i2l, 1, []), []), ((.ladd, 1, []), []), ((.lstore_n 1, 1, []), []), ((.iinc 3 1, 3, []), []), ((.goto (-22), 3, [1687558]), [])]
def b_X3_digest_31 : List (ev_I × List (Nat × Nat)) := [((.iconst 0, 1, []), []), ((.istore_n 3, 1, []), []), ((.nop, 0, [0, 1687585]), [])]
def b_X3_digest_33 : List (ev_I × List (Nat × Nat)) := [((.iload_n 3, 1, []), []), ((.aload_n 0, 1, []), []), ((.getfield 171, 3, [0, 0, 7, 2]), []), ((.if_icmp .ge 16, 3, [1687606]), []), ((.aload_n 0, 1, []), []), ((.lload_n 1, 1, []), []), ((.iload_n 3, 1, []), []), ((.invokevirtual 430, 3, [3, 2, 409]), []), ((.lstore_n 1, 1, []), []), ((.iinc 3 1, 3, []), []), ((.goto (-18), 3, [1687585]), [])]
def b_X3_digest_54 : List (ev_I × List (Nat × Nat)) := [((.iconst 0, 1, []), []), ((.istore_n 3, 1, []), []), ((.nop, 0, [0, 1687608]), [])]
def b_X3_digest_56 : List (ev_I × List (Nat × Nat)) := [((.iload_n 3, 1, []), []), ((.bipush 6, 2, []), []), ((.if_icmp .ge 16, 3, [1687627]), []), ((.aload_n 0, 1, []), []), ((.lload_n 1, 1, []), []), ((.iload_n 3, 1, []), []), ((.invokevirtual 434, 3, [3, 2, 410]), []), ((.lstore_n 1, 1, []), []), ((.iinc 3 1, 3, []), []), ((.goto (-16), 3, [1687608]), [])]
def b_X3_digest_75 : List (ev_I × List (Nat × Nat)) := [((.iconst 0, 1, []), []), ((.istore_n 3, 1, []), []), ((.nop, 0, [0, 1687629]), [])]
def b_X3_digest_77 : List (ev_I × List (Nat × Nat)) := [((.iload_n 3, 1, []), []), ((.bipush 6, 2, []), []), ((.if_icmp .ge 16, 3, [1687648]), []), ((.aload_n 0, 1, []), []), ((.lload_n 1, 1, []), []), ((.iload_n 3, 1, []), []), ((.invokevirtual 437, 3, [3, 2, 411]), []), ((.lstore_n 1, 1, []), []), ((.iinc 3 1, 3, []), []), ((.goto (-16), 3, [1687629]), [])]
def b_X3_digest_96 : List (ev_I × List (Nat × Nat)) := [((.iconst 0, 1, []), []), ((.istore_n 3, 1, []), []), ((.nop, 0, [0, 1687650]), [])]
def b_X3_digest_98 : List (ev_I × List (Nat × Nat)) := [((.iload_n 3, 1, []), []), ((.iconst 3, 1, []), []), ((.if_icmp .ge 23, 3, [1687675]), []), ((.ldc2_w 423, 3, [0, 0, 31]), []), ((.lload_n 1, 1, []), []), ((.lmul, 1, []), []), ((.aload_n 0, 1, []), []), ((.getfield 81, 3, [0, 4, 35, 2]), []), ((.iload_n 3, 1, []), []), ((.iaload, 1, []), []), ((.i2l, 1, []), []), ((.ladd, 1, []), []), ((.lstore_n 1, 1, []), []), ((.iinc 3 1, 3, []), []), ((.goto (-22), 3, [1687650]), [])]
def b_X3_digest_123 : List (ev_I × List (Nat × Nat)) := [((.iconst 0, 1, []), []), ((.istore_n 3, 1, []), []), ((.nop, 0, [0, 1687677]), [])]
def b_X3_digest_125 : List (ev_I × List (Nat × Nat)) := [((.iload_n 3, 1, []), []), ((.bipush 10, 2, []), []), ((.if_icmp .ge 22, 3, [1687702]), []), ((.ldc2_w 423, 3, [0, 0, 31]), []), ((.lload_n 1, 1, []), []), ((.lmul, 1, []), []), ((.aload_n 0, 1, []), []), ((.iload_n 3, 1, []), []), ((.invokevirtual 440, 3, [2, 2, 397]), []), ((.i2l, 1, []), []), ((.ladd, 1, []), []), ((.lstore_n 1, 1, []), []), ((.iinc 3 1, 3, []), []), ((.goto (-22), 3, [1687677]), [])]
def b_X3_digest_150 : List (ev_I × List (Nat × Nat)) := [((.lload_n 1, 1, []), []), ((.lreturn, 1, []), [])]
def tb_X3_digest : List (Nat × List (ev_I × List (Nat × Nat))) := [(0, b_X3_digest_0), (6, b_X3_digest_6), (31, b_X3_digest_31), (33, b_X3_digest_33), (54, b_X3_digest_54), (56, b_X3_digest_56), (75, b_X3_digest_75), (77, b_X3_digest_77), (96, b_X3_digest_96), (98, b_X3_digest_98), (123, b_X3_digest_123), (125, b_X3_digest_125), (150, b_X3_digest_150)]
def b_L_law_0 : List (ev_I × List (Nat × Nat)) := [((.new 7, 3, [1, 23]), []), ((.dup, 1, []), []), ((.invokespecial 9, 3, [41, 1]), []), ((.astore_n 1, 1, []), []), ((.new 10, 3, [2, 47]), []), ((.dup, 1, []), []), ((.invokespecial 12, 3, [42, 1]), []), ((.astore_n 2, 1, []), []), ((.iconst 0, 1, []), []), ((.istore_n 3, 1, []), []), ((.nop, 0, [0, 1691666]), [])]
def b_L_law_18 : List (ev_I × List (Nat × Nat)) := [((.iload_n 3, 1, []), []), ((.aload_n 0, 1, []), []), ((.arraylength, 1, []), []), ((.bipush 6, 2, []), []), ((.isub, 1, []), []), ((.if_icmp .gt 1447, 3, [1693119]), []), ((.aload_n 0, 1, []), []), ((.iload_n 3, 1, []), []), ((.iaload, 1, []), []), ((.bipush 63, 2, []), []), ((.iand, 1, []), []), ((.tableswitch 1432 0 34 #[155, 198, 221, 274, 308, 371, 394, 417, 430, 453, 496, 559, 602, 635, 648, 681, 724, 767, 830, 863, 916, 959, 1002, 1065, 1088, 1121, 1154, 1197, 1210, 1263, 1316, 1339, 1362, 1395, 1418], 155, [1693113, 1691836, 1691879, 1691902, 1691955, 1691989, 1692052, 1692075, 1692098, 1692111, 1692134, 1692177, 1692240, 1692283, 1692316, 1692329, 1692362, 1692405, 1692448, 1692511, 1692544, 1692597, 1692640, 1692683, 1692746, 1692769, 1692802, 1692835, 1692878, 1692891, 1692944, 1692997, 1693020, 1693043, 1693076, 1693099]), [])]
def b_L_law_188 : List (ev_I × List (Nat × Nat)) := [((.aload_n 1, 1, []), []), ((.aload_n 0, 1, []), []), ((.iload_n 3, 1, []), []), ((.iconst 1, 1, []), []), ((.iadd, 1, []), []), ((.iaload, 1, []), []), ((.aload_n 0, 1, []), []), ((.iload_n 3, 1, []), []), ((.iconst 2, 1, []), []), ((.iadd, 1, []), []), ((.iaload, 1, []), []), ((.aload_n 0, 1, []), []), ((.iload_n 3, 1, []), []), ((.iconst 3, 1, []), []), ((.iadd, 1, []), []), ((.iaload, 1, []), []), ((.invokevirtual 13, 3, [4, 1, 48]), []), ((.aload_n 2, 1, []), []), ((.aload_n 0, 1, []), []), ((.iload_n 3, 1, []), []), ((.iconst 1, 1, []), []), ((.iadd, 1, []), []), ((.iaload, 1, []), []), ((.aload_n 0, 1, []), []), ((.iload_n 3, 1, []), []), ((.iconst 2, 1, []), []), ((.iadd, 1, []), []), ((.iaload, 1, []), []), ((.aload_n 0, 1, []), []), ((.iload_n 3, 1, []), []), ((.iconst 3, 1, []), []), ((.iadd, 1, []), []), ((.iaload, 1, []), []), ((.invokevirtual 17, 3, [4, 2, 52]), []), ((.if_icmp .eq 1239, 3, [1693113]), []), ((.iconst 0, 1, []), []), ((.ireturn, 1, [5]), [])]
def b_L_law_231 : List (ev_I × List (Nat × Nat)) := [((.aload_n 1, 1, []), []), ((.aload_n 0, 1, []), []), ((.iload_n 3, 1, []), []), ((.iconst 1, 1, []), []), ((.iadd, 1, []), []), ((.iaload, 1, []), []), ((.invokevirtual 18, 3, [2, 1, 53]), []), ((.aload_n 2, 1, []), []), ((.aload_n 0, 1, []), []), ((.iload_n 3, 1, []), []), ((.iconst 1, 1, []), []), ((.iadd, 1, []), []), ((.iaload, 1, []), []), ((.invokevirtual 22, 3, [2, 2, 54]), []), ((.if_icmp .eq 1216, 3, [1693113]), []), ((.iconst 0, 1, []), []), ((.ireturn, 1, [5]), [])]
def b_L_law_254 : List (ev_I × List (Nat × Nat)) := [((.aload_n 1, 1, []), []), ((.aload_n 0, 1, []), []), ((.iload_n 3, 1, []), []), ((.iconst 1, 1, []), []), ((.iadd, 1, []), []), ((.iaload, 1, []), []), ((.aload_n 0, 1, []), []), ((.iload_n 3, 1, []), []), ((.iconst 2, 1, []), []), ((.iadd, 1, []), []), ((.iaload, 1, []), []), ((.aload_n 0, 1, []), []), ((.iload_n 3, 1, []), []), ((.iconst 3, 1, []), []), ((.iadd, 1, []), []), ((.iaload, 1, []), []), ((.aload_n 0, 1, []), []), ((.iload_n 3, 1, []), []), ((.iconst 4, 1, []), []), ((.iadd, 1, []), []), ((.iaload, 1, []), []), ((.invokevirtual 23, 3, [5, 1, 56]), []), ((.aload_n 2, 1, []), []), ((.aload_n 0, 1, []), []), ((.iload_n 3, 1, []), []), ((.iconst 1, 1, []), []), ((.iadd, 1, []), []), ((.iaload, 1, []), []), ((.aload_n 0, 1, []), []), ((.iload_n 3, 1, []), []), ((.iconst 2, 1, []), []), ((.iadd, 1, []), []), ((.iaload, 1, []), []), ((.aload_n 0, 1, []), []), ((.iload_n 3, 1, []), []), ((.iconst 3, 1, []), []), ((.iadd, 1, []), []), ((.iaload, 1, []), []), ((.aload_n 0, 1, []), []), ((.iload_n 3, 1, []), []), ((.iconst 4, 1, []), []), ((.iadd, 1, []), []), ((.iaload, 1, []), []), ((.invokevirtual 27, 3, [5, 2, 57]), []), ((.if_icmp .eq 1163, 3, [1693113]), []), ((.iconst 0, 1, []), []), ((.ireturn, 1, [5]), [])]
def b_L_law_307 : List (ev_I × List (Nat × Nat)) := [((.aload_n 1, 1, []), []), ((.aload_n 0, 1, []), []), ((.iload_n 3, 1, []), []), ((.iconst 1, 1, []), []), ((.iadd, 1, []), []), ((.iaload, 1, []), []), ((.aload_n 0, 1, []), []), ((.iload_n 3, 1, []), []), ((.iconst 2, 1, []), []), ((.iadd, 1, []), []), ((.iaload, 1, []), []), ((.invokevirtual 28, 3, [3, 1, 64]), []), ((.aload_n 2, 1, []), []), ((.aload_n 0, 1, []), []), ((.iload_n 3, 1, []), []), ((.iconst 1, 1, []), []), ((.iadd, 1, []), []), ((.iaload, 1, []), []), ((.aload_n 0, 1, []), []), ((.iload_n 3, 1, []), []), ((.iconst 2, 1, []), []), ((.iadd, 1, []), []), ((.iaload, 1, []), []), ((.invokevirtual 32, 3, [3, 2, 69]), []), ((.lcmp, 1, []), []), ((.ifCond .eq 1129, 3, [1693113]), []), ((.iconst 0, 1, []), []), ((.ireturn, 1, [5]), [])]
def b_L_law_341 : List (ev_I × List (Nat × Nat)) := [((.aload_n 1, 1, []), []), ((.aload_n 0, 1, []), []), ((.iload_n 3, 1, []), []), ((.iconst 1, 1, []), []), ((.iadd, 1, []), []), ((.iaload, 1, []), []), ((.aload_n 0, 1, []), []), ((.iload_n 3, 1, []), []), ((.iconst 2, 1, []), []), ((.iadd, 1, []), []), ((.iaload, 1, []), []), ((.aload_n 0, 1, []), []), ((.iload_n 3, 1, []), []), ((.iconst 3, 1, []), []), ((.iadd, 1, []), []), ((.iaload, 1, []), []), ((.aload_n 0, 1, []), []), ((.iload_n 3, 1, []), []), ((.iconst 4, 1, []), []), ((.iadd, 1, []), []), ((.iaload, 1, []), []), ((.aload_n 0, 1, []), []), ((.iload_n 3, 1, []), []), ((.iconst 5, 1, []), []), ((.iadd, 1, []), []), ((.iaload, 1, []), []), ((.invokevirtual 33, 3, [6, 1, 70]), []), ((.aload_n 2, 1, []), []), ((.aload_n 0, 1, []), []), ((.iload_n 3, 1, []), []), ((.iconst 1, 1, []), []), ((.iadd, 1, []), []), ((.iaload, 1, []), []), ((.aload_n 0, 1, []), []), ((.iload_n 3, 1, []), []), ((.iconst 2, 1, []), []), ((.iadd, 1, []), []), ((.iaload, 1, []), []), ((.aload_n 0, 1, []), []), ((.iload_n 3, 1, []), []), ((.iconst 3, 1, []), []), ((.iadd, 1, []), []), ((.iaload, 1, []), []), ((.aload_n 0, 1, []), []), ((.iload_n 3, 1, []), []), ((.iconst 4, 1, []), []), ((.iadd, 1, []), []), ((.iaload, 1, []), []), ((.aload_n 0, 1, []), []), ((.iload_n 3, 1, []), []), ((.iconst 5, 1, []), []), ((.iadd, 1, []), []), ((.iaload, 1, []), []), ((.invokevirtual 37, 3, [6, 2, 71]), []), ((.if_icmp .eq 1066, 3, [1693113]), []), ((.iconst 0, 1, []), []), ((.ireturn, 1, [5]), [])]
def b_L_law_404 : List (ev_I × List (Nat × Nat)) := [((.aload_n 1, 1, []), []), ((.aload_n 0, 1, []), []), ((.iload_n 3, 1, []), []), ((.iconst 1, 1, []), []), ((.iadd, 1, []), []), ((.iaload, 1, []), []), ((.invokevirtual 38, 3, [2, 1, 85]), []), ((.aload_n 2, 1, []), []), ((.aload_n 0, 1, []), []), ((.iload_n 3, 1, []), []), ((.iconst 1, 1, []), []), ((.iadd, 1, []), []), ((.iaload, 1, []), []), ((.invokevirtual 41, 3, [2, 2, 87]), []), ((.if_icmp .eq 1043, 3, [1693113]), []), ((.iconst 0, 1, []), []), ((.ireturn, 1, [5]), [])]
def b_L_law_427 : List (ev_I × List (Nat × Nat)) := [((.aload_n 1, 1, []), []), ((.aload_n 0, 1, []), []), ((.iload_n 3, 1, []), []), ((.iconst 1, 1, []), []), ((.iadd, 1, []), []), ((.iaload, 1, []), []), ((.invokevirtual 42, 3, [2, 1, 88]), []), ((.aload_n 2, 1, []), []), ((.aload_n 0, 1, []), []), ((.iload_n 3, 1, []), []), ((.iconst 1, 1, []), []), ((.iadd, 1, []), []), ((.iaload, 1, []), []), ((.invokevirtual 45, 3, [2, 2, 89]), []), ((.if_icmp .eq 1020, 3, [1693113]), []), ((.iconst 0, 1, []), []), ((.ireturn, 1, [5]), [])]
def b_L_law_450 : List (ev_I × List (Nat × Nat)) := [((.aload_n 1, 1, []), []), ((.invokevirtual 46, 3, [1, 1, 90]), []), ((.aload_n 2, 1, []), []), ((.invokevirtual 50, 3, [1, 2, 91]), []), ((.if_icmp .eq 1007, 3, [1693113]), []), ((.iconst 0, 1, []), []), ((.ireturn, 1, [5]), [])]
def b_L_law_463 : List (ev_I × List (Nat × Nat)) := [((.aload_n 1, 1, []), []), ((.aload_n 0, 1, []), []), ((.iload_n 3, 1, []), []), ((.iconst 1, 1, []), []), ((.iadd, 1, []), []), ((.iaload, 1, []), []), ((.invokevirtual 51, 3, [2, 1, 124]), []), ((.aload_n 2, 1, []), []), ((.aload_n 0, 1, []), []), ((.iload_n 3, 1, []), []), ((.iconst 1, 1, []), []), ((.iadd, 1, []), []), ((.iaload, 1, []), []), ((.invokevirtual 54, 3, [2, 2, 127]), []), ((.if_icmp .eq 984, 3, [1693113]), []), ((.iconst 0, 1, []), []), ((.ireturn, 1, [5]), [])]
def b_L_law_486 : List (ev_I × List (Nat × Nat)) := [((.aload_n 1, 1, []), []), ((.aload_n 0, 1, []), []), ((.iload_n 3, 1, []), []), ((.iconst 1, 1, []), []), ((.iadd, 1, []), []), ((.iaload, 1, []), []), ((.aload_n 0, 1, []), []), ((.iload_n 3, 1, []), []), ((.iconst 2, 1, []), []), ((.iadd, 1, []), []), ((.iaload, 1, []), []), ((.aload_n 0, 1, []), []), ((.iload_n 3, 1, []), []), ((.iconst 3, 1, []), []), ((.iadd, 1, []), []), ((.iaload, 1, []), []), ((.invokevirtual 55, 3, [4, 1, 135]), []), ((.aload_n 2, 1, []), []), ((.aload_n 0, 1, []), []), ((.iload_n 3, 1, []), []), ((.iconst 1, 1, []), []), ((.iadd, 1, []), []), ((.iaload, 1, []), []), ((.aload_n 0, 1, []), []), ((.iload_n 3, 1, []), []), ((.iconst 2, 1, []), []), ((.iadd, 1, []), []), ((.iaload, 1, []), []), ((.aload_n 0, 1, []), []), ((.iload_n 3, 1, []), []), ((.iconst 3, 1, []), []), ((.iadd, 1, []), []), ((.iaload, 1, []), []), ((.invokevirtual 58, 3, [4, 2, 137]), []), ((.if_icmp .eq 941, 3, [1693113]), []), ((.iconst 0, 1, []), []), ((.ireturn, 1, [5]), [])]
def b_L_law_529 : List (ev_I × List (Nat × Nat)) := [((.aload_n 1, 1, []), []), ((.aload_n 0, 1, []), []), ((.iload_n 3, 1, []), []), ((.iconst 1, 1, []), []), ((.iadd, 1, []), []), ((.iaload, 1, []), []), ((.aload_n 0, 1, []), []), ((.iload_n 3, 1, []), []), ((.iconst 2, 1, []), []), ((.iadd, 1, []), []), ((.iaload, 1, []), []), ((.aload_n 0, 1, []), []), ((.iload_n 3, 1, []), []), ((.iconst 3, 1, []), []), ((.iadd, 1, []), []), ((.iaload, 1, []), []), ((.aload_n 0, 1, []), []), ((.iload_n 3, 1, []), []), ((.iconst 4, 1, []), []), ((.iadd, 1, []), []), ((.iaload, 1, []), []), ((.aload_n 0, 1, []), []), ((.iload_n 3, 1, []), []), ((.iconst 5, 1, []), []), ((.iadd, 1, []), []), ((.iaload, 1, []), []), ((.invokevirtual 59, 3, [6, 1, 139]), []), ((.aload_n 2, 1, []), []), ((.aload_n 0, 1, []), []), ((.iload_n 3, 1, []), []), ((.iconst 1, 1, []), []), ((.iadd, 1, []), []), ((.iaload, 1, []), []), ((.aload_n 0, 1, []), []), ((.iload_n 3, 1, []), []), ((.iconst 2, 1, []), []), ((.iadd, 1, []), []), ((.iaload, 1, []), []), ((.aload_n 0, 1, []), []), ((.iload_n 3, 1, []), []), ((.iconst 3, 1, []), []), ((.iadd, 1, []), []), ((.iaload, 1, []), []), ((.aload_n 0, 1, []), []), ((.iload_n 3, 1, []), []), ((.iconst 4, 1, []), []), ((.iadd, 1, []), []), ((.iaload, 1, []), []), ((.aload_n 0, 1, []), []), ((.iload_n 3, 1, []), []), ((.iconst 5, 1, []), []), ((.iadd, 1, []), []), ((.iaload, 1, []), []), ((.invokevirtual 62, 3, [6, 2, 140]), []), ((.if_icmp .eq 878, 3, [1693113]), []), ((.iconst 0, 1, []), []), ((.ireturn, 1, [5]), [])]
def b_L_law_592 : List (ev_I × List (Nat × Nat)) := [((.aload_n 1, 1, []), []), ((.aload_n 0, 1, []), []), ((.iload_n 3, 1, []), []), ((.iconst 1, 1, []), []), ((.iadd, 1, []), []), ((.iaload, 1, []), []), ((.aload_n 0, 1, []), []), ((.iload_n 3, 1, []), []), ((.iconst 2, 1, []), []), ((.iadd, 1, []), []), ((.iaload, 1, []), []), ((.aload_n 0, 1, []), []), ((.iload_n 3, 1, []), []), ((.iconst 3, 1, []), []), ((.iadd, 1, []), []), ((.iaload, 1, []), []), ((.invokevirtual 63, 3, [4, 1, 142]), []), ((.aload_n 2, 1, []), []), ((.aload_n 0, 1, []), []), ((.iload_n 3, 1, []), []), ((.iconst 1, 1, []), []), ((.iadd, 1, []), []), ((.iaload, 1, []), []), ((.aload_n 0, 1, []), []), ((.iload_n 3, 1, []), []), ((.iconst 2, 1, []), []), ((.iadd, 1, []), []), ((.iaload, 1, []), []), ((.aload_n 0, 1, []), []), ((.iload_n 3, 1, []), []), ((.iconst 3, 1, []), []), ((.iadd, 1, []), []), ((.iaload, 1, []), []), ((.invokevirtual 66, 3, [4, 2, 143]), []), ((.if_icmp .eq 835, 3, [1693113]), []), ((.iconst 0, 1, []), []), ((.ireturn, 1, [5]), [])]
def b_L_law_635 : List (ev_I × List (Nat × Nat)) := [((.aload_n 1, 1, []), []), ((.aload_n 0, 1, []), []), ((.iload_n 3, 1, []), []), ((.iconst 1, 1, []), []), ((.iadd, 1, []), []), ((.iaload, 1, []), []), ((.aload_n 0, 1, []), []), ((.iload_n 3, 1, []), []), ((.iconst 2, 1, []), []), ((.iadd, 1, []), []), ((.iaload, 1, []), []), ((.invokevirtual 67, 3, [3, 1, 144]), []), ((.aload_n 2, 1, []), []), ((.aload_n 0, 1, []), []), ((.iload_n 3, 1, []), []), ((.iconst 1, 1, []), []), ((.iadd, 1, []), []), ((.iaload, 1, []), []), ((.aload_n 0, 1, []), []), ((.iload_n 3, 1, []), []), ((.iconst 2, 1, []), []), ((.iadd, 1, []), []), ((.iaload, 1, []), []), ((.invokevirtual 71, 3, [3, 2, 145]), []), ((.if_icmp .eq 802, 3, [1693113]), []), ((.iconst 0, 1, []), []), ((.ireturn, 1, [5]), [])]
def b_L_law_668 : List (ev_I × List (Nat × Nat)) := [((.aload_n 1, 1, []), []), ((.invokevirtual 72, 3, [1, 1, 156]), []), ((.aload_n 2, 1, []), []), ((.invokevirtual 75, 3, [1, 2, 157]), []), ((.if_icmp .eq 789, 3, [1693113]), []), ((.iconst 0, 1, []), []), ((.ireturn, 1, [5]), [])]
def b_L_law_681 : List (ev_I × List (Nat × Nat)) := [((.aload_n 1, 1, []), []), ((.aload_n 0, 1, []), []), ((.iload_n 3, 1, []), []), ((.iconst 1, 1, []), []), ((.iadd, 1, []), []), ((.iaload, 1, []), []), ((.aload_n 0, 1, []), []), ((.iload_n 3, 1, []), []), ((.iconst 2, 1, []), []), ((.iadd, 1, []), []), ((.iaload, 1, []), []), ((.invokevirtual 76, 3, [3, 1, 170]), []), ((.aload_n 2, 1, []), []), ((.aload_n 0, 1, []), []), ((.iload_n 3, 1, []), []), ((.iconst 1, 1, []), []), ((.iadd, 1, []), []), ((.iaload, 1, []), []), ((.aload_n 0, 1, []), []), ((.iload_n 3, 1, []), []), ((.iconst 2, 1, []), []), ((.iadd, 1, []), []), ((.iaload, 1, []), []), ((.invokevirtual 79, 3, [3, 2, 177]), []), ((.if_icmp .eq 756, 3, [1693113]), []), ((.iconst 0, 1, []), []), ((.ireturn, 1, [5]), [])]
def b_L_law_714 : List (ev_I × List (Nat × Nat)) := [((.aload_n 1, 1, []), []), ((.aload_n 0, 1, []), []), ((.iload_n 3, 1, []), []), ((.iconst 1, 1, []), []), ((.iadd, 1, []), []), ((.iaload, 1, []), []), ((.aload_n 0, 1, []), []), ((.iload_n 3, 1, []), []), ((.iconst 2, 1, []), []), ((.iadd, 1, []), []), ((.iaload, 1, []), []), ((.aload_n 0, 1, []), []), ((.iload_n 3, 1, []), []), ((.iconst 3, 1, []), []), ((.iadd, 1, []), []), ((.iaload, 1, []), []), ((.invokevirtual 80, 3, [4, 1, 179]), []), ((.aload_n 2, 1, []), []), ((.aload_n 0, 1, []), []), ((.iload_n 3, 1, []), []), ((.iconst 1, 1, []), []), ((.iadd, 1, []), []), ((.iaload, 1, []), []), ((.aload_n 0, 1, []), []), ((.iload_n 3, 1, []), []), ((.iconst 2, 1, []), []), ((.iadd, 1, []), []), ((.iaload, 1, []), []), ((.aload_n 0, 1, []), []), ((.iload_n 3, 1, []), []), ((.iconst 3, 1, []), []), ((.iadd, 1, []), []), ((.iaload, 1, []), []), ((.invokevirtual 83, 3, [4, 2, 181]), []), ((.if_icmp .eq 713, 3, [1693113]), []), ((.iconst 0, 1, []), []), ((.ireturn, 1, [5]), [])]
def b_L_law_757 : List (ev_I × List (Nat × Nat)) := [((.aload_n 1, 1, []), []), ((.aload_n 0, 1, []), []), ((.iload_n 3, 1, []), []), ((.iconst 1, 1, []), []), ((.iadd, 1, []), []), ((.iaload, 1, []), []), ((.aload_n 0, 1, []), []), ((.iload_n 3, 1, []), []), ((.iconst 2, 1, []), []), ((.iadd, 1, []), []), ((.iaload, 1, []), []), ((.aload_n 0, 1, []), []), ((.iload_n 3, 1, []), []), ((.iconst 3, 1, []), []), ((.iadd, 1, []), []), ((.iaload, 1, []), []), ((.invokevirtual 84, 3, [4, 1, 192]), []), ((.aload_n 2, 1, []), []), ((.aload_n 0, 1, []), []), ((.iload_n 3, 1, []), []), ((.iconst 1, 1, []), []), ((.iadd, 1, []), []), ((.iaload, 1, []), []), ((.aload_n 0, 1, []), []), ((.iload_n 3, 1, []), []), ((.iconst 2, 1, []), []), ((.iadd, 1, []), []), ((.iaload, 1, []), []), ((.aload_n 0, 1, []), []), ((.iload_n 3, 1, []), []), ((.iconst 3, 1, []), []), ((.iadd, 1, []), []), ((.iaload, 1, []), []), ((.invokevirtual 87, 3, [4, 2, 199]), []), ((.if_icmp .eq 670, 3, [1693113]), []), ((.iconst 0, 1, []), []), ((.ireturn, 1, [5]), [])]
def b_L_law_800 : List (ev_I × List (Nat × Nat)) := [((.aload_n 1, 1, []), []), ((.aload_n 0, 1, []), []), ((.iload_n 3, 1, []), []), ((.iconst 1, 1, []), []), ((.iadd, 1, []), []), ((.iaload, 1, []), []), ((.aload_n 0, 1, []), []), ((.iload_n 3, 1, []), []), ((.iconst 2, 1, []), []), ((.iadd, 1, []), []), ((.iaload, 1, []), []), ((.aload_n 0, 1, []), []), ((.iload_n 3, 1, []), []), ((.iconst 3, 1, []), []), ((.iadd, 1, []), []), ((.iaload, 1, []), []), ((.aload_n 0, 1, []), []), ((.iload_n 3, 1, []), []), ((.iconst 4, 1, []), []), ((.iadd, 1, []), []), ((.iaload, 1, []), []), ((.aload_n 0, 1, []), []), ((.iload_n 3, 1, []), []), ((.iconst 5, 1, []), []), ((.iadd, 1, []), []), ((.iaload, 1, []), []), ((.invokevirtual 88, 3, [6, 1, 204]), []), ((.aload_n 2, 1, []), []), ((.aload_n 0, 1, []), []), ((.iload_n 3, 1, []), []), ((.iconst 1, 1, []), []), ((.iadd, 1, []), []), ((.iaload, 1, []), []), ((.aload_n 0, 1, []), []), ((.iload_n 3, 1, []), []), ((.iconst 2, 1, []), []), ((.iadd, 1, []), []), ((.iaload, 1, []), []), ((.aload_n 0, 1, []), []), ((.iload_n 3, 1, []), []), ((.iconst 3, 1, []), []), ((.iadd, 1, []), []), ((.iaload, 1, []), []), ((.aload_n 0, 1, []), []), ((.iload_n 3, 1, []), []), ((.iconst 4, 1, []), []), ((.iadd, 1, []), []), ((.iaload, 1, []), []), ((.aload_n 0, 1, []), []), ((.iload_n 3, 1, []), []), ((.iconst 5, 1, []), []), ((.iadd, 1, []), []), ((.iaload, 1, []), []), ((.invokevirtual 91, 3, [6, 2, 207]), []), ((.if_icmp .eq 607, 3, [1693113]), []), ((.iconst 0, 1, []), []), ((.ireturn, 1, [5]), [])]
def b_L_law_863 : List (ev_I × List (Nat × Nat)) := [((.aload_n 1, 1, []), []), ((.aload_n 0, 1, []), []), ((.iload_n 3, 1, []), []), ((.iconst 1, 1, []), []), ((.iadd, 1, []), []), ((.iaload, 1, []), []), ((.aload_n 0, 1, []), []), ((.iload_n 3, 1, []), []), ((.iconst 2, 1, []), []), ((.iadd, 1, []), []), ((.iaload, 1, []), []), ((.invokevirtual 92, 3, [3, 1, 213]), []), ((.aload_n 2, 1, []), []), ((.aload_n 0, 1, []), []), ((.iload_n 3, 1, []), []), ((.iconst 1, 1, []), []), ((.iadd, 1, []), []), ((.iaload, 1, []), []), ((.aload_n 0, 1, []), []), ((.iload_n 3, 1, []), []), ((.iconst 2, 1, []), []), ((.iadd, 1, []), []), ((.iaload, 1, []), []), ((.invokevirtual 95, 3, [3, 2, 218]), []), ((.if_icmp .eq 574, 3, [1693113]), []), ((.iconst 0, 1, []), []), ((.ireturn, 1, [5]), [])]
def b_L_law_896 : List (ev_I × List (Nat × Nat)) := [((.aload_n 1, 1, []), []), ((.aload_n 0, 1, []), []), ((.iload_n 3, 1, []), []), ((.iconst 1, 1, []), []), ((.iadd, 1, []), []), ((.iaload, 1, []), []), ((.aload_n 0, 1, []), []), ((.iload_n 3, 1, []), []), ((.iconst 2, 1, []), []), ((.iadd, 1, []), []), ((.iaload, 1, []), []), ((.aload_n 0, 1, []), []), ((.iload_n 3, 1, []), []), ((.iconst 3, 1, []), []), ((.iadd, 1, []), []), ((.iaload, 1, []), []), ((.aload_n 0, 1, []), []), ((.iload_n 3, 1, []), []), ((.iconst 4, 1, []), []), ((.iadd, 1, []), []), ((.iaload, 1, []), []), ((.invokevirtual 96, 3, [5, 1, 229]), []), ((.aload_n 2, 1, []), []), ((.aload_n 0, 1, []), []), ((.iload_n 3, 1, []), []), ((.iconst 1, 1, []), []), ((.iadd, 1, []), []), ((.iaload, 1, []), []), ((.aload_n 0, 1, []), []), ((.iload_n 3, 1, []), []), ((.iconst 2, 1, []), []), ((.iadd, 1, []), []), ((.iaload, 1, []), []), ((.aload_n 0, 1, []), []), ((.iload_n 3, 1, []), []), ((.iconst 3, 1, []), []), ((.iadd, 1, []), []), ((.iaload, 1, []), []), ((.aload_n 0, 1, []), []), ((.iload_n 3, 1, []), []), ((.iconst 4, 1, []), []), ((.iadd, 1, []), []), ((.iaload, 1, []), []), ((.invokevirtual 99, 3, [5, 2, 230]), []), ((.if_icmp .eq 521, 3, [1693113]), []), ((.iconst 0, 1, []), []), ((.ireturn, 1, [5]), [])]
def b_L_law_949 : List (ev_I × List (Nat × Nat)) := [((.aload_n 1, 1, []), []), ((.aload_n 0, 1, []), []), ((.iload_n 3, 1, []), []), ((.iconst 1, 1, []), []), ((.iadd, 1, []), []), ((.iaload, 1, []), []), ((.aload_n 0, 1, []), []), ((.iload_n 3, 1, []), []), ((.iconst 2, 1, []), []), ((.iadd, 1, []), []), ((.iaload, 1, []), []), ((.aload_n 0, 1, []), []), ((.iload_n 3, 1, []), []), ((.iconst 3, 1, []), []), ((.iadd, 1, []), []), ((.iaload, 1, []), []), ((.invokevirtual 100, 3, [4, 1, 243]), []), ((.aload_n 2, 1, []), []), ((.aload_n 0, 1, []), []), ((.iload_n 3, 1, []), []), ((.iconst 1, 1, []), []), ((.iadd, 1, []), []), ((.iaload, 1, []), []), ((.aload_n 0, 1, []), []), ((.iload_n 3, 1, []), []), ((.iconst 2, 1, []), []), ((.iadd, 1, []), []), ((.iaload, 1, []), []), ((.aload_n 0, 1, []), []), ((.iload_n 3, 1, []), []), ((.iconst 3, 1, []), []), ((.iadd, 1, []), []), ((.iaload, 1, []), []), ((.invokevirtual 103, 3, [4, 2, 253]), []), ((.if_icmp .eq 478, 3, [1693113]), []), ((.iconst 0, 1, []), []), ((.ireturn, 1, [5]), [])]
def b_L_law_992 : List (ev_I × List (Nat × Nat)) := [((.aload_n 1, 1, []), []), ((.aload_n 0, 1, []), []), ((.iload_n 3, 1, []), []), ((.iconst 1, 1, []), []), ((.iadd, 1, []), []), ((.iaload, 1, []), []), ((.aload_n 0, 1, []), []), ((.iload_n 3, 1, []), []), ((.iconst 2, 1, []), []), ((.iadd, 1, []), []), ((.iaload, 1, []), []), ((.aload_n 0, 1, []), []), ((.iload_n 3, 1, []), []), ((.iconst 3, 1, []), []), ((.iadd, 1, []), []), ((.iaload, 1, []), []), ((.invokevirtual 104, 3, [4, 1, 259]), []), ((.aload_n 2, 1, []), []), ((.aload_n 0, 1, []), []), ((.iload_n 3, 1, []), []), ((.iconst 1, 1, []), []), ((.iadd, 1, []), []), ((.iaload, 1, []), []), ((.aload_n 0, 1, []), []), ((.iload_n 3, 1, []), []), ((.iconst 2, 1, []), []), ((.iadd, 1, []), []), ((.iaload, 1, []), []), ((.aload_n 0, 1, []), []), ((.iload_n 3, 1, []), []), ((.iconst 3, 1, []), []), ((.iadd, 1, []), []), ((.iaload, 1, []), []), ((.invokevirtual 107, 3, [4, 2, 263]), []), ((.if_icmp .eq 435, 3, [1693113]), []), ((.iconst 0, 1, []), []), ((.ireturn, 1, [5]), [])]
def b_L_law_1035 : List (ev_I × List (Nat × Nat)) := [((.aload_n 1, 1, []), []), ((.aload_n 0, 1, []), []), ((.iload_n 3, 1, []), []), ((.iconst 1, 1, []), []), ((.iadd, 1, []), []), ((.iaload, 1, []), []), ((.aload_n 0, 1, []), []), ((.iload_n 3, 1, []), []), ((.iconst 2, 1, []), []), ((.iadd, 1, []), []), ((.iaload, 1, []), []), ((.aload_n 0, 1, []), []), ((.iload_n 3, 1, []), []), ((.iconst 3, 1, []), []), ((.iadd, 1, []), []), ((.iaload, 1, []), []), ((.aload_n 0, 1, []), []), ((.iload_n 3, 1, []), []), ((.iconst 4, 1, []), []), ((.iadd, 1, []), []), ((.iaload, 1, []), []), ((.aload_n 0, 1, []), []), ((.iload_n 3, 1, []), []), ((.iconst 5, 1, []), []), ((.iadd, 1, []), []), ((.iaload, 1, []), []), ((.invokevirtual 108, 3, [6, 1, 264]), []), ((.aload_n 2, 1, []), []), ((.aload_n 0, 1, []), []), ((.iload_n 3, 1, []), []), ((.iconst 1, 1, []), []), ((.iadd, 1, []), []), ((.iaload, 1, []), []), ((.aload_n 0, 1, []), []), ((.iload_n 3, 1, []), []), ((.iconst 2, 1, []), []), ((.iadd, 1, []), []), ((.iaload, 1, []), []), ((.aload_n 0, 1, []), []), ((.iload_n 3, 1, []), []), ((.iconst 3, 1, []), []), ((.iadd, 1, []), []), ((.iaload, 1, []), []), ((.aload_n 0, 1, []), []), ((.iload_n 3, 1, []), []), ((.iconst 4, 1, []), []), ((.iadd, 1, []), []), ((.iaload, 1, []), []), ((.aload_n 0, 1, []), []), ((.iload_n 3, 1, []), []), ((.iconst 5, 1, []), []), ((.iadd, 1, []), []), ((.iaload, 1, []), []), ((.invokevirtual 111, 3, [6, 2, 266]), []), ((.if_icmp .eq 372, 3, [1693113]), []), ((.iconst 0, 1, []), []), ((.ireturn, 1, [5]), [])]
def b_L_law_1098 : List (ev_I × List (Nat × Nat)) := [((.aload_n 1, 1, []), []), ((.aload_n 0, 1, []), []), ((.iload_n 3, 1, []), []), ((.iconst 1, 1, []), []), ((.iadd, 1, []), []), ((.iaload, 1, []), []), ((.invokevirtual 112, 3, [2, 1, 273]), []), ((.aload_n 2, 1, []), []), ((.aload_n 0, 1, []), []), ((.iload_n 3, 1, []), []), ((.iconst 1, 1, []), []), ((.iadd, 1, []), []), ((.iaload, 1, []), []), ((.invokevirtual 115, 3, [2, 2, 281]), []), ((.if_icmp .eq 349, 3, [1693113]), []), ((.iconst 0, 1, []), []), ((.ireturn, 1, [5]), [])]
def b_L_law_1121 : List (ev_I × List (Nat × Nat)) := [((.aload_n 1, 1, []), []), ((.aload_n 0, 1, []), []), ((.iload_n 3, 1, []), []), ((.iconst 1, 1, []), []), ((.iadd, 1, []), []), ((.iaload, 1, []), []), ((.aload_n 0, 1, []), []), ((.iload_n 3, 1, []), []), ((.iconst 2, 1, []), []), ((.iadd, 1, []), []), ((.iaload, 1, []), []), ((.invokevirtual 116, 3, [3, 1, 282]), []), ((.aload_n 2, 1, []), []), ((.aload_n 0, 1, []), []), ((.iload_n 3, 1, []), []), ((.iconst 1, 1, []), []), ((.iadd, 1, []), []), ((.iaload, 1, []), []), ((.aload_n 0, 1, []), []), ((.iload_n 3, 1, []), []), ((.iconst 2, 1, []), []), ((.iadd, 1, []), []), ((.iaload, 1, []), []), ((.invokevirtual 119, 3, [3, 2, 283]), []), ((.if_icmp .eq 316, 3, [1693113]), []), ((.iconst 0, 1, []), []), ((.ireturn, 1, [5]), [])]
def b_L_law_1154 : List (ev_I × List (Nat × Nat)) := [((.aload_n 1, 1, []), []), ((.aload_n 0, 1, []), []), ((.iload_n 3, 1, []), []), ((.iconst 1, 1, []), []), ((.iadd, 1, []), []), ((.iaload, 1, []), []), ((.aload_n 0, 1, []), []), ((.iload_n 3, 1, []), []), ((.iconst 2, 1, []), []), ((.iadd, 1, []), []), ((.iaload, 1, []), []), ((.invokevirtual 120, 3, [3, 1, 286]), []), ((.aload_n 2, 1, []), []), ((.aload_n 0, 1, []), []), ((.iload_n 3, 1, []), []), ((.iconst 1, 1, []), []), ((.iadd, 1, []), []), ((.iaload, 1, []), []), ((.aload_n 0, 1, []), []), ((.iload_n 3, 1, []), []), ((.iconst 2, 1, []), []), ((.iadd, 1, []), []), ((.iaload, 1, []), []), ((.invokevirtual 123, 3, [3, 2, 288]), []), ((.if_icmp .eq 283, 3, [1693113]), []), ((.iconst 0, 1, []), []), ((.ireturn, 1, [5]), [])]
def b_L_law_1187 : List (ev_I × List (Nat × Nat)) := [((.aload_n 1, 1, []), []), ((.aload_n 0, 1, []), []), ((.iload_n 3, 1, []), []), ((.iconst 1, 1, []), []), ((.iadd, 1, []), []), ((.iaload, 1, []), []), ((.aload_n 0, 1, []), []), ((.iload_n 3, 1, []), []), ((.iconst 2, 1, []), []), ((.iadd, 1, []), []), ((.iaload, 1, []), []), ((.aload_n 0, 1, []), []), ((.iload_n 3, 1, []), []), ((.iconst 3, 1, []), []), ((.iadd, 1, []), []), ((.iaload, 1, []), []), ((.invokevirtual 124, 3, [4, 1, 289]), []), ((.aload_n 2, 1, []), []), ((.aload_n 0, 1, []), []), ((.iload_n 3, 1, []), []), ((.iconst 1, 1, []), []), ((.iadd, 1, []), []), ((.iaload, 1, []), []), ((.aload_n 0, 1, []), []), ((.iload_n 3, 1, []), []), ((.iconst 2, 1, []), []), ((.iadd, 1, []), []), ((.iaload, 1, []), []), ((.aload_n 0, 1, []), []), ((.iload_n 3, 1, []), []), ((.iconst 3, 1, []), []), ((.iadd, 1, []), []), ((.iaload, 1, []), []), ((.invokevirtual 127, 3, [4, 2, 291]), []), ((.if_icmp .eq 240, 3, [1693113]), []), ((.iconst 0, 1, []), []), ((.ireturn, 1, [5]), [])]
def b_L_law_1230 : List (ev_I × List (Nat × Nat)) := [((.aload_n 1, 1, []), []), ((.invokevirtual 128, 3, [1, 1, 346]), []), ((.aload_n 2, 1, []), []), ((.invokevirtual 131, 3, [1, 2, 364]), []), ((.if_icmp .eq 227, 3, [1693113]), []), ((.iconst 0, 1, []), []), ((.ireturn, 1, [5]), [])]
def b_L_law_1243 : List (ev_I × List (Nat × Nat)) := [((.aload_n 1, 1, []), []), ((.aload_n 0, 1, []), []), ((.iload_n 3, 1, []), []), ((.iconst 1, 1, []), []), ((.iadd, 1, []), []), ((.iaload, 1, []), []), ((.aload_n 0, 1, []), []), ((.iload_n 3, 1, []), []), ((.iconst 2, 1, []), []), ((.iadd, 1, []), []), ((.iaload, 1, []), []), ((.aload_n 0, 1, []), []), ((.iload_n 3, 1, []), []), ((.iconst 3, 1, []), []), ((.iadd, 1, []), []), ((.iaload, 1, []), []), ((.aload_n 0, 1, []), []), ((.iload_n 3, 1, []), []), ((.iconst 4, 1, []), []), ((.iadd, 1, []), []), ((.iaload, 1, []), []), ((.invokevirtual 132, 3, [5, 1, 377]), []), ((.aload_n 2, 1, []), []), ((.aload_n 0, 1, []), []), ((.iload_n 3, 1, []), []), ((.iconst 1, 1, []), []), ((.iadd, 1, []), []), ((.iaload, 1, []), []), ((.aload_n 0, 1, []), []), ((.iload_n 3, 1, []), []), ((.iconst 2, 1, []), []), ((.iadd, 1, []), []), ((.iaload, 1, []), []), ((.aload_n 0, 1, []), []), ((.iload_n 3, 1, []), []), ((.iconst 3, 1, []), []), ((.iadd, 1, []), []), ((.iaload, 1, []), []), ((.aload_n 0, 1, []), []), ((.iload_n 3, 1, []), []), ((.iconst 4, 1, []), []), ((.iadd, 1, []), []), ((.iaload, 1, []), []), ((.invokevirtual 135, 3, [5, 2, 384]), []), ((.if_icmp .eq 174, 3, [1693113]), []), ((.iconst 0, 1, []), []), ((.ireturn, 1, [5]), [])]
def b_L_law_1296 : List (ev_I × List (Nat × Nat)) := [((.aload_n 1, 1, []), []), ((.aload_n 0, 1, []), []), ((.iload_n 3, 1, []), []), ((.iconst 1, 1, []), []), ((.iadd, 1, []), []), ((.iaload, 1, []), []), ((.aload_n 0, 1, []), []), ((.iload_n 3, 1, []), []), ((.iconst 2, 1, []), []), ((.iadd, 1, []), []), ((.iaload, 1, []), []), ((.aload_n 0, 1, []), []), ((.iload_n 3, 1, []), []), ((.iconst 3, 1, []), []), ((.iadd, 1, []), []), ((.iaload, 1, []), []), ((.aload_n 0, 1, []), []), ((.iload_n 3, 1, []), []), ((.iconst 4, 1, []), []), ((.iadd, 1, []), []), ((.iaload, 1, []), []), ((.invokevirtual 136, 3, [5, 1, 390]), []), ((.aload_n 2, 1, []), []), ((.aload_n 0, 1, []), []), ((.iload_n 3, 1, []), []), ((.iconst 1, 1, []), []), ((.iadd, 1, []), []), ((.iaload, 1, []), []), ((.aload_n 0, 1, []), []), ((.iload_n 3, 1, []), []), ((.iconst 2, 1, []), []), ((.iadd, 1, []), []), ((.iaload, 1, []), []), ((.aload_n 0, 1, []), []), ((.iload_n 3, 1, []), []), ((.iconst 3, 1, []), []), ((.iadd, 1, []), []), ((.iaload, 1, []), []), ((.aload_n 0, 1, []), []), ((.iload_n 3, 1, []), []), ((.iconst 4, 1, []), []), ((.iadd, 1, []), []), ((.iaload, 1, []), []), ((.invokevirtual 139, 3, [5, 2, 392]), []), ((.if_icmp .eq 121, 3, [1693113]), []), ((.iconst 0, 1, []), []), ((.ireturn, 1, [5]), [])]
def b_L_law_1349 : List (ev_I × List (Nat × Nat)) := [((.aload_n 1, 1, []), []), ((.aload_n 0, 1, []), []), ((.iload_n 3, 1, []), []), ((.iconst 1, 1, []), []), ((.iadd, 1, []), []), ((.iaload, 1, []), []), ((.invokevirtual 140, 3, [2, 1, 393]), []), ((.aload_n 2, 1, []), []), ((.aload_n 0, 1, []), []), ((.iload_n 3, 1, []), []), ((.iconst 1, 1, []), []), ((.iadd, 1, []), []), ((.iaload, 1, []), []), ((.invokevirtual 143, 3, [2, 2, 394]), []), ((.if_icmp .eq 98, 3, [1693113]), []), ((.iconst 0, 1, []), []), ((.ireturn, 1, [5]), [])]
def b_L_law_1372 : List (ev_I × List (Nat × Nat)) := [((.aload_n 1, 1, []), []), ((.aload_n 0, 1, []), []), ((.iload_n 3, 1, []), []), ((.iconst 1, 1, []), []), ((.iadd, 1, []), []), ((.iaload, 1, []), []), ((.invokevirtual 144, 3, [2, 1, 396]), []), ((.aload_n 2, 1, []), []), ((.aload_n 0, 1, []), []), ((.iload_n 3, 1, []), []), ((.iconst 1, 1, []), []), ((.iadd, 1, []), []), ((.iaload, 1, []), []), ((.invokevirtual 147, 3, [2, 2, 397]), []), ((.if_icmp .eq 75, 3, [1693113]), []), ((.iconst 0, 1, []), []), ((.ireturn, 1, [5]), [])]
def b_L_law_1395 : List (ev_I × List (Nat × Nat)) := [((.aload_n 1, 1, []), []), ((.aload_n 0, 1, []), []), ((.iload_n 3, 1, []), []), ((.iconst 1, 1, []), []), ((.iadd, 1, []), []), ((.iaload, 1, []), []), ((.aload_n 0, 1, []), []), ((.iload_n 3, 1, []), []), ((.iconst 2, 1, []), []), ((.iadd, 1, []), []), ((.iaload, 1, []), []), ((.invokevirtual 148, 3, [3, 1, 398]), []), ((.aload_n 2, 1, []), []), ((.aload_n 0, 1, []), []), ((.iload_n 3, 1, []), []), ((.iconst 1, 1, []), []), ((.iadd, 1, []), []), ((.iaload, 1, []), []), ((.aload_n 0, 1, []), []), ((.iload_n 3, 1, []), []), ((.iconst 2, 1, []), []), ((.iadd, 1, []), []), ((.iaload, 1, []), []), ((.invokevirtual 151, 3, [3, 2, 399]), []), ((.if_icmp .eq 42, 3, [1693113]), []), ((.iconst 0, 1, []), []), ((.ireturn, 1, [5]), [])]
def b_L_law_1428 : List (ev_I × List (Nat × Nat)) := [((.aload_n 1, 1, []), []), ((.aload_n 0, 1, []), []), ((.iload_n 3, 1, []), []), ((.iconst 1, 1, []), []), ((.iadd, 1, []), []), ((.iaload, 1, []), []), ((.invokevirtual 152, 3, [2, 1, 402]), []), ((.aload_n 2, 1, []), []), ((.aload_n 0, 1, []), []), ((.iload_n 3, 1, []), []), ((.iconst 1, 1, []), []), ((.iadd, 1, []), []), ((.iaload, 1, []), []), ((.invokevirtual 155, 3, [2, 2, 404]), []), ((.if_icmp .eq 19, 3, [1693113]), []), ((.iconst 0, 1, []), []), ((.ireturn, 1, [5]), [])]
def b_L_law_1451 : List (ev_I × List (Nat × Nat)) := [((.aload_n 1, 1, []), []), ((.invokevirtual 156, 3, [1, 1, 408]), []), ((.aload_n 2, 1, []), []), ((.invokevirtual 160, 3, [1, 2, 412]), []), ((.lcmp, 1, []), []), ((.ifCond .eq 5, 3, [1693113]), []), ((.iconst 0, 1, []), []), ((.ireturn, 1, [5]), [])]
def b_L_law_1465 : List (ev_I × List (Nat × Nat)) := [((.iinc 3 6, 3, []), []), ((.goto (-1450), 3, [1691666]), [])]
def b_L_law_1471 : List (ev_I × List (Nat × Nat)) := [((.iconst 1, 1, []), []), ((.ireturn, 1, [5]), [])]
def tb_L_law : List (Nat × List (ev_I × List (Nat × Nat))) := [(0, b_L_law_0), (18, b_L_law_18), (188, b_L_law_188), (231, b_L_law_231), (254, b_L_law_254), (307, b_L_law_307), (341, b_L_law_341), (404, b_L_law_404), (427, b_L_law_427), (450, b_L_law_450), (463, b_L_law_463), (486, b_L_law_486), (529, b_L_law_529), (592, b_L_law_592), (635, b_L_law_635), (668, b_L_law_668), (681, b_L_law_681), (714, b_L_law_714), (757, b_L_law_757), (800, b_L_law_800), (863, b_L_law_863), (896, b_L_law_896), (949, b_L_law_949), (992, b_L_law_992), (1035, b_L_law_1035), (1098, b_L_law_1098), (1121, b_L_law_1121), (1154, b_L_law_1154), (1187, b_L_law_1187), (1230, b_L_law_1230), (1243, b_L_law_1243), (1296, b_L_law_1296), (1349, b_L_law_1349), (1372, b_L_law_1372), (1395, b_L_law_1395), (1428, b_L_law_1428), (1451, b_L_law_1451), (1465, b_L_law_1465), (1471, b_L_law_1471)]
def ev_tbs : List (List (Nat × List (ev_I × List (Nat × Nat)))) := [[], tb_J0_init, tb_J1_init, tb_X1_init, tb_J2_isLatin1, tb_J4_signedHashCode, tb_J4_utf16hashCode, tb_J4_hashCode, tb_J4_hashCode_2, tb_J4_hashCode_3, tb_J4_hashCode_4, tb_J4_vectorizedHashCode, tb_J3_hashCode, tb_J2_hashCode, tb_X8_hashCode, tb_J1_hash, tb_J1_resize, tb_J6_init, tb_J1_newNode, tb_J7_init, tb_J34_linkNodeAtEnd, tb_J34_newNode, tb_J40_equals, tb_J3_equals, tb_J2_equals, tb_X8_equals, tb_J1_treeifyBin, tb_J1_afterNodeAccess, tb_J34_afterNodeAccess, tb_J1_afterNodeInsertion, tb_J34_removeEldestEntry, tb_J34_afterNodeInsertion, tb_J1_putVal, tb_J1_put, tb_X1_puts, tb_X1_all, tb_J18_init, tb_J19_init, tb_J20_init, tb_J21_init, tb_X2_init, tb_X0_init, tb_X3_init, tb_X0_in, tb_X0_isRow, tb_X4_made, tb_X4_init, tb_X0_finds, tb_X0_row, tb_X3_in, tb_X3_isRow, tb_X3_meets, tb_X3_row, tb_X0_lose, tb_X3_lose, tb_X4_lays, tb_X0_put, tb_X3_put, tb_X0_no, tb_J27_isNaN, tb_J27_floatToIntBits, tb_J28_isNaN, tb_J28_doubleToLongBits, tb_X4_tells, tb_X0_get, tb_X3_no, tb_X3_lacks, tb_X3_bitsOf, tb_X3_toldOf, tb_X3_get, tb_X0_copy, tb_X3_copy, tb_J21_sub, tb_J21_size, tb_J21_elementAt, tb_J21_inc, tb_J21_pollFirst, tb_X5_init, tb_J21_newCapacity, tb_J8_min, tb_J30_copyOf_2, tb_J30_copyOf, tb_J21_grow, tb_J21_addLast, tb_X0_tells, tb_X0_turns, tb_X3_logs, tb_X3_turns, tb_X0_type, tb_X3_type, tb_X0_wipe, tb_X3_wipe, tb_J31_init, tb_J32_init, tb_J8_max, tb_J4_hugeLength, tb_J4_newLength, tb_J31_newCapacity, tb_J30_copyOf_3, tb_J31_ensureCapacityInternal, tb_J31_isLatin1, tb_J3_canEncode, tb_J31_append, tb_J32_append, tb_J31_getValue, tb_J31_length, tb_J32_length, tb_J30_checkLength, tb_J30_copyOfRangeByte, tb_J30_copyOfRange, tb_J2_init_2, tb_J2_init, tb_J32_toString, tb_J1_getNode, tb_J1_get, tb_J34_get, tb_X0_named, tb_J20_size, tb_X7_init, tb_X6_init, tb_J20_grow_2, tb_J20_grow, tb_J20_add_2, tb_J20_add, tb_X0_statement, tb_X3_isTyped, tb_X3_isName, tb_X3_statement, tb_X0_isStatement, tb_X0_isReference, tb_J12_checkIndex, tb_J33_checkIndex, tb_J20_elementData, tb_J20_get, tb_X6_at, tb_X0_refer, tb_X3_isStatement, tb_X3_refer, tb_X7_moves, tb_X0_place, tb_X3_place, tb_X6_waits, tb_X0_guard, tb_X3_guard, tb_X0_mask, tb_X3_mask, tb_J21_dec, tb_J21_pollLast, tb_X0_lambda_turns_0, tb_J20_fastRemove, tb_J20_remove, tb_X0_lambda_statement_1, tb_X0_lambda_refer_2, tb_X0_lambda_place_3, tb_X0_lambda_guard_4, tb_X0_lambda_mask_5, tb_X0_undo, tb_X3_undo, tb_X4_isNumbers, tb_X0_numbers, tb_X7_isAlike, tb_X6_gathers, tb_X6_family, tb_X6_lambda_new_0, tb_X6_lambda_waits_1, tb_X4_has, tb_X4_isTrue, tb_X6_isDone, tb_X6_doneIn, tb_X6_tells, tb_X0_info, tb_X3_formAs, tb_X3_isNumbers, tb_X3_familyAs, tb_X3_isDone, tb_X3_doneMany, tb_X3_infoOf, tb_X3_info, tb_X7_tells, tb_X0_reference, tb_X3_referenceOf, tb_X3_reference, tb_X0_referenceAt, tb_X0_isTo, tb_X0_isTurn, tb_X7_lambda_new_0, tb_X7_lambda_moves_1, tb_J8_abs, tb_X8_init, tb_X8_of, tb_X0_sectionAt, tb_X8_tells, tb_X0_section, tb_X3_isSection, tb_X3_placeOf, tb_X3_firstOf, tb_X3_manyOf, tb_X3_strideOf, tb_X3_sectionOf, tb_X3_section, tb_X0_divisor, tb_J8_floorMod, tb_X8_last, tb_X8_meet, tb_X0_meet, tb_X3_hasPlace, tb_X3_meetOf, tb_X3_meet, tb_J34_init, tb_X6_looks, tb_X9_init, tb_X0_kindsOf, tb_J1_size, tb_X0_kinds, tb_X3_isLooked, tb_X3_addsKind, tb_X3_addsIf, tb_X3_findsKinds, tb_X3_kinds, tb_J35_init, tb_J34_sequencedValues, tb_J34_values, tb_J38_init, tb_J39_init, tb_J35_iterator, tb_J38_hasNext, tb_J38_nextNode, tb_J39_next, tb_X0_nth, tb_X0_kind, tb_X3_kind, tb_X0_isSet, tb_X0_fits, tb_X0_setAt, tb_X0_cellsOf, tb_X1_isFirm, tb_X0_isOwn, tb_X0_reads, tb_X1_isDoubtful, tb_X0_goes, tb_X0_knows, tb_X0_bitsOf, tb_J10_bitCount, tb_X0_many, tb_X3_isSet, tb_X3_bitAt, tb_X3_reads, tb_X3_knows, tb_X3_findsTurn, tb_X3_findsSets, tb_X3_bitsOfTurn, tb_X3_bitsOfSet, tb_X3_size, tb_X3_many, tb_J11_numberOfTrailingZeros, tb_J10_numberOfTrailingZeros, tb_X0_piece, tb_X0_without, tb_X0_piecesOf, tb_X0_pieces, tb_X3_nextBit, tb_X3_without, tb_X3_piecesOf, tb_X3_pieces, tb_X0_piece_2, tb_X3_pieceOf, tb_X3_piece, tb_X0_isShared, tb_X6_isOf, tb_X0_isGathered, tb_X0_waits, tb_X0_verdictBy, tb_X0_verdictOf, tb_X0_verdict, tb_X3_isWritten, tb_X3_isShared, tb_X3_isAbout, tb_X3_isGathered, tb_X3_isCopied, tb_X3_verdictAs, tb_X3_verdictOf, tb_X3_verdict, tb_X0_would, tb_X3_would, tb_X0_lastOf, tb_X0_witnessBy, tb_X0_witness, tb_X3_witnessOf, tb_X3_witness, tb_X0_last, tb_X3_lastOf, tb_X3_last, tb_X2_passes, tb_X2_begins, tb_X0_begins, tb_X2_isLeft, tb_X2_wrong, tb_X2_against, tb_X4_at, tb_X2_value, tb_X1_isWhole, tb_X0_formOf, tb_X0_widthOf, tb_X1_lambda_all_0, tb_X1_lambda_all_3, tb_X1_lambda_all_6, tb_X1_rest, tb_X1_lambda_all_9, tb_X1_lambda_all_12, tb_X1_lambda_all_15, tb_X1_lambda_all_16, tb_X1_lambda_all_17, tb_X1_lambda_all_18, tb_X1_lambda_all_21, tb_J8_addExact, tb_X1_sum, tb_J8_multiplyExact, tb_X1_product, tb_X1_lambda_all_1, tb_X1_lambda_all_4, tb_X1_lambda_all_7, tb_X1_restOf, tb_X1_lambda_all_10, tb_X1_lambda_all_13, tb_X1_lambda_all_19, tb_X1_lambda_all_22, tb_X1_lambda_all_2, tb_X1_lambda_all_5, tb_X1_lambda_all_8, tb_X1_restIn, tb_X1_lambda_all_11, tb_X1_lambda_all_14, tb_X1_lambda_all_20, tb_X1_lambda_all_23, tb_X0_done, tb_X4_cast, tb_X2_brings, tb_X0_isGreater, tb_X4_becomes, tb_X2_writes, tb_X2_acts, tb_X2_goesOn, tb_X2_steps, tb_X0_steps, tb_X0_runs, tb_X0_tellsRun, tb_X0_run, tb_X3_firstFrom, tb_X3_begins, tb_X3_lacksPlace, tb_X3_read, tb_X3_formBy, tb_X3_widthOf, tb_X3_isInt, tb_X3_byInts, tb_X3_byFloats, tb_X3_zeroed, tb_X3_byDoubles, tb_X3_does, tb_X3_castTo, tb_X3_writes, tb_X3_item, tb_X3_steps, tb_X3_runNow, tb_X3_run, tb_X0_isTwo, tb_X0_isMix, tb_X0_serialRows, tb_X0_isParallel, tb_X0_dealOf, tb_X0_lambda_dealOf_6, tb_X0_lambda_dealOf_7, tb_X0_next, tb_X0_gathererOf, tb_X0_comes, tb_X0_comesOut, tb_X0_mixes, tb_X0_mixed, tb_X3_serials, tb_X3_mayMix, tb_X3_turnOf, tb_X3_left, tb_X3_copiesOut, tb_X3_mixes, tb_X3_mixed, tb_X0_keeps, tb_X0_keepsWriters, tb_X0_takesBack, tb_X0_isFound, tb_X0_sameBy, tb_X0_same, tb_X3_sameNow, tb_X3_same, tb_X0_faults, tb_X3_faults, tb_X0_endedBy, tb_X0_ended, tb_X3_ended, tb_X0_writer, tb_X3_writer, tb_X0_serialNow, tb_X0_missing, tb_X0_count, tb_X3_missing, tb_X3_count, tb_X0_tellsOf, tb_X0_tellsRow, tb_X0_tellsCells, tb_X0_digest, tb_X3_statementDigest, tb_X3_rowDigest, tb_X3_cellsDigest, tb_X3_digest, tb_L_law]
def ev_maxL : List Nat := [1, 1, 1, 6, 1, 6, 6, 6, 6, 6, 6, 5, 1, 2, 1, 2, 14, 5, 5, 5, 3, 6, 2, 3, 3, 3, 9, 2, 7, 2, 2, 4, 13, 3, 3, 1, 1, 1, 2, 1, 2, 1, 2, 6, 1, 2, 4, 2, 5, 3, 1, 2, 5, 3, 3, 4, 6, 6, 1, 1, 1, 2, 2, 2, 4, 1, 3, 11, 7, 4, 7, 7, 3, 1, 2, 2, 4, 2, 5, 2, 4, 2, 9, 3, 2, 3, 7, 3, 2, 2, 2, 2, 2, 2, 2, 3, 4, 6, 3, 3, 1, 1, 2, 2, 1, 1, 1, 2, 5, 3, 5, 2, 1, 8, 3, 3, 3, 1, 2, 4, 4, 1, 4, 2, 3, 8, 2, 4, 2, 3, 3, 2, 2, 2, 2, 6, 2, 5, 4, 10, 7, 3, 7, 4, 5, 4, 2, 4, 2, 4, 4, 1, 2, 4, 3, 2, 2, 5, 1, 3, 2, 7, 2, 1, 3, 2, 2, 2, 3, 2, 3, 4, 1, 11, 5, 4, 3, 3, 2, 4, 3, 4, 2, 2, 2, 2, 5, 1, 4, 5, 3, 2, 4, 3, 4, 5, 2, 2, 4, 4, 5, 3, 1, 9, 8, 6, 11, 6, 1, 2, 2, 12, 1, 3, 2, 6, 4, 4, 3, 3, 3, 1, 3, 3, 1, 1, 2, 1, 5, 6, 5, 4, 7, 3, 7, 1, 6, 10, 1, 12, 2, 7, 2, 4, 4, 6, 6, 7, 5, 2, 4, 6, 3, 4, 2, 3, 7, 6, 5, 4, 4, 5, 4, 4, 9, 6, 6, 6, 3, 7, 5, 3, 3, 2, 4, 6, 3, 8, 5, 4, 2, 2, 3, 3, 6, 7, 3, 8, 3, 4, 6, 4, 1, 3, 6, 1, 3, 3, 2, 4, 1, 2, 3, 2, 2, 2, 2, 2, 2, 2, 2, 2, 2, 2, 3, 2, 4, 2, 2, 2, 2, 2, 2, 2, 2, 2, 4, 4, 4, 4, 4, 4, 4, 4, 6, 3, 8, 5, 4, 6, 9, 2, 3, 2, 2, 2, 1, 5, 2, 5, 5, 2, 6, 2, 6, 4, 2, 6, 7, 3, 6, 11, 5, 2, 1, 1, 4, 3, 1, 4, 2, 2, 6, 3, 9, 4, 10, 5, 3, 5, 9, 5, 3, 10, 6, 5, 4, 4, 4, 16, 5, 9, 6, 2, 2, 2, 2, 2, 4, 4, 1, 6, 2, 3, 2, 9, 8, 7, 4, 8, 9, 7, 4, 4]
def ev_caplist : List (List Nat) := [[], [], [], [], [], [], [], [], [], [], [], [], [], [], [], [], [], [], [], [], [], [], [], [], [], [], [], [], [], [], [4, 0], [], [], [4], [4, 0], [0, 0, 0], [4, 0, 0, 0], [0, 0], [4, 0, 0], [4, 0], [0], [0]]
def ev_lamlist : List Nat := [0, 303, 318, 326, 304, 319, 327, 305, 320, 328, 306, 321, 329, 307, 322, 330, 308, 323, 331, 309, 310, 311, 312, 324, 332, 313, 325, 333, 315, 317, 148, 185, 163, 151, 152, 186, 153, 164, 154, 155, 370, 371]
def ev_prog : ev_P := (fun id => ((ev_tbs.getD (id / 4096) []).lookup (id % 4096)).getD [], fun y => ev_maxL.getD y 0, fun t => ev_caplist.getD (t - 100) [], fun t => ev_lamlist.getD (t - 100) 0)
theorem bk_J0_init_0 : ev_prog.1 4096 = b_J0_init_0 := rfl
theorem ml_J0_init : ev_prog.2.1 1 = 1 := rfl
theorem bk_J1_init_0 : ev_prog.1 8192 = b_J1_init_0 := rfl
theorem ml_J1_init : ev_prog.2.1 2 = 1 := rfl
theorem bk_X1_init_0 : ev_prog.1 12288 = b_X1_init_0 := rfl
theorem ml_X1_init : ev_prog.2.1 3 = 6 := rfl
theorem bk_J2_isLatin1_0 : ev_prog.1 16384 = b_J2_isLatin1_0 := rfl
theorem bk_J2_isLatin1_17 : ev_prog.1 16401 = b_J2_isLatin1_17 := rfl
theorem bk_J2_isLatin1_18 : ev_prog.1 16402 = b_J2_isLatin1_18 := rfl
theorem ml_J2_isLatin1 : ev_prog.2.1 4 = 1 := rfl
theorem bk_J4_signedHashCode_0 : ev_prog.1 20480 = b_J4_signedHashCode_0 := rfl
theorem bk_J4_signedHashCode_8 : ev_prog.1 20488 = b_J4_signedHashCode_8 := rfl
theorem bk_J4_signedHashCode_35 : ev_prog.1 20515 = b_J4_signedHashCode_35 := rfl
theorem ml_J4_signedHashCode : ev_prog.2.1 5 = 6 := rfl
theorem bk_J4_utf16hashCode_0 : ev_prog.1 24576 = b_J4_utf16hashCode_0 := rfl
theorem bk_J4_utf16hashCode_8 : ev_prog.1 24584 = b_J4_utf16hashCode_8 := rfl
theorem bk_J4_utf16hashCode_38 : ev_prog.1 24614 = b_J4_utf16hashCode_38 := rfl
theorem ml_J4_utf16hashCode : ev_prog.2.1 6 = 6 := rfl
theorem bk_J4_hashCode_0 : ev_prog.1 28672 = b_J4_hashCode_0 := rfl
theorem bk_J4_hashCode_8 : ev_prog.1 28680 = b_J4_hashCode_8 := rfl
theorem bk_J4_hashCode_31 : ev_prog.1 28703 = b_J4_hashCode_31 := rfl
theorem ml_J4_hashCode : ev_prog.2.1 7 = 6 := rfl
theorem bk_J4_hashCode_2_0 : ev_prog.1 32768 = b_J4_hashCode_2_0 := rfl
theorem bk_J4_hashCode_2_8 : ev_prog.1 32776 = b_J4_hashCode_2_8 := rfl
theorem bk_J4_hashCode_2_31 : ev_prog.1 32799 = b_J4_hashCode_2_31 := rfl
theorem ml_J4_hashCode_2 : ev_prog.2.1 8 = 6 := rfl
theorem bk_J4_hashCode_3_0 : ev_prog.1 36864 = b_J4_hashCode_3_0 := rfl
theorem bk_J4_hashCode_3_8 : ev_prog.1 36872 = b_J4_hashCode_3_8 := rfl
theorem bk_J4_hashCode_3_31 : ev_prog.1 36895 = b_J4_hashCode_3_31 := rfl
theorem ml_J4_hashCode_3 : ev_prog.2.1 9 = 6 := rfl
theorem bk_J4_hashCode_4_0 : ev_prog.1 40960 = b_J4_hashCode_4_0 := rfl
theorem bk_J4_hashCode_4_8 : ev_prog.1 40968 = b_J4_hashCode_4_8 := rfl
theorem bk_J4_hashCode_4_31 : ev_prog.1 40991 = b_J4_hashCode_4_31 := rfl
theorem ml_J4_hashCode_4 : ev_prog.2.1 10 = 6 := rfl
theorem bk_J4_vectorizedHashCode_0 : ev_prog.1 45056 = b_J4_vectorizedHashCode_0 := rfl
theorem bk_J4_vectorizedHashCode_44 : ev_prog.1 45100 = b_J4_vectorizedHashCode_44 := rfl
theorem bk_J4_vectorizedHashCode_57 : ev_prog.1 45113 = b_J4_vectorizedHashCode_57 := rfl
theorem bk_J4_vectorizedHashCode_77 : ev_prog.1 45133 = b_J4_vectorizedHashCode_77 := rfl
theorem bk_J4_vectorizedHashCode_90 : ev_prog.1 45146 = b_J4_vectorizedHashCode_90 := rfl
theorem bk_J4_vectorizedHashCode_103 : ev_prog.1 45159 = b_J4_vectorizedHashCode_103 := rfl
theorem bk_J4_vectorizedHashCode_116 : ev_prog.1 45172 = b_J4_vectorizedHashCode_116 := rfl
theorem bk_J4_vectorizedHashCode_129 : ev_prog.1 45185 = b_J4_vectorizedHashCode_129 := rfl
theorem bk_J4_vectorizedHashCode_157 : ev_prog.1 45213 = b_J4_vectorizedHashCode_157 := rfl
theorem ml_J4_vectorizedHashCode : ev_prog.2.1 11 = 5 := rfl
theorem bk_J3_hashCode_0 : ev_prog.1 49152 = b_J3_hashCode_0 := rfl
theorem bk_J3_hashCode_28 : ev_prog.1 49180 = b_J3_hashCode_28 := rfl
theorem bk_J3_hashCode_32 : ev_prog.1 49184 = b_J3_hashCode_32 := rfl
theorem bk_J3_hashCode_42 : ev_prog.1 49194 = b_J3_hashCode_42 := rfl
theorem bk_J3_hashCode_51 : ev_prog.1 49203 = b_J3_hashCode_51 := rfl
theorem ml_J3_hashCode : ev_prog.2.1 12 = 1 := rfl
theorem bk_J2_hashCode_0 : ev_prog.1 53248 = b_J2_hashCode_0 := rfl
theorem bk_J2_hashCode_33 : ev_prog.1 53281 = b_J2_hashCode_33 := rfl
theorem bk_J2_hashCode_40 : ev_prog.1 53288 = b_J2_hashCode_40 := rfl
theorem bk_J2_hashCode_53 : ev_prog.1 53301 = b_J2_hashCode_53 := rfl
theorem bk_J2_hashCode_58 : ev_prog.1 53306 = b_J2_hashCode_58 := rfl
theorem ml_J2_hashCode : ev_prog.2.1 13 = 2 := rfl
theorem bk_X8_hashCode_0 : ev_prog.1 57344 = b_X8_hashCode_0 := rfl
theorem ml_X8_hashCode : ev_prog.2.1 14 = 1 := rfl
theorem bk_J1_hash_0 : ev_prog.1 61440 = b_J1_hash_0 := rfl
theorem bk_J1_hash_8 : ev_prog.1 61448 = b_J1_hash_8 := rfl
theorem bk_J1_hash_19 : ev_prog.1 61459 = b_J1_hash_19 := rfl
theorem ml_J1_hash : ev_prog.2.1 15 = 2 := rfl
theorem bk_J1_resize_0 : ev_prog.1 65536 = b_J1_resize_0 := rfl
theorem bk_J1_resize_13 : ev_prog.1 65549 = b_J1_resize_13 := rfl
theorem bk_J1_resize_15 : ev_prog.1 65551 = b_J1_resize_15 := rfl
theorem bk_J1_resize_42 : ev_prog.1 65578 = b_J1_resize_42 := rfl
theorem bk_J1_resize_67 : ev_prog.1 65603 = b_J1_resize_67 := rfl
theorem bk_J1_resize_77 : ev_prog.1 65613 = b_J1_resize_77 := rfl
theorem bk_J1_resize_85 : ev_prog.1 65621 = b_J1_resize_85 := rfl
theorem bk_J1_resize_121 : ev_prog.1 65657 = b_J1_resize_121 := rfl
theorem bk_J1_resize_123 : ev_prog.1 65659 = b_J1_resize_123 := rfl
theorem bk_J1_resize_125 : ev_prog.1 65661 = b_J1_resize_125 := rfl
theorem bk_J1_resize_151 : ev_prog.1 65687 = b_J1_resize_151 := rfl
theorem bk_J1_resize_198 : ev_prog.1 65734 = b_J1_resize_198 := rfl
theorem bk_J1_resize_223 : ev_prog.1 65759 = b_J1_resize_223 := rfl
theorem bk_J1_resize_235 : ev_prog.1 65771 = b_J1_resize_235 := rfl
theorem bk_J1_resize_264 : ev_prog.1 65800 = b_J1_resize_264 := rfl
theorem bk_J1_resize_271 : ev_prog.1 65807 = b_J1_resize_271 := rfl
theorem bk_J1_resize_278 : ev_prog.1 65814 = b_J1_resize_278 := rfl
theorem bk_J1_resize_290 : ev_prog.1 65826 = b_J1_resize_290 := rfl
theorem bk_J1_resize_297 : ev_prog.1 65833 = b_J1_resize_297 := rfl
theorem bk_J1_resize_301 : ev_prog.1 65837 = b_J1_resize_301 := rfl
theorem bk_J1_resize_327 : ev_prog.1 65863 = b_J1_resize_327 := rfl
theorem bk_J1_resize_347 : ev_prog.1 65883 = b_J1_resize_347 := rfl
theorem bk_J1_resize_353 : ev_prog.1 65889 = b_J1_resize_353 := rfl
theorem ml_J1_resize : ev_prog.2.1 16 = 14 := rfl
theorem bk_J6_init_0 : ev_prog.1 69632 = b_J6_init_0 := rfl
theorem ml_J6_init : ev_prog.2.1 17 = 5 := rfl
theorem bk_J1_newNode_0 : ev_prog.1 73728 = b_J1_newNode_0 := rfl
theorem ml_J1_newNode : ev_prog.2.1 18 = 5 := rfl
theorem bk_J7_init_0 : ev_prog.1 77824 = b_J7_init_0 := rfl
theorem ml_J7_init : ev_prog.2.1 19 = 5 := rfl
theorem bk_J34_linkNodeAtEnd_0 : ev_prog.1 81920 = b_J34_linkNodeAtEnd_0 := rfl
theorem bk_J34_linkNodeAtEnd_30 : ev_prog.1 81950 = b_J34_linkNodeAtEnd_30 := rfl
theorem bk_J34_linkNodeAtEnd_40 : ev_prog.1 81960 = b_J34_linkNodeAtEnd_40 := rfl
theorem bk_J34_linkNodeAtEnd_43 : ev_prog.1 81963 = b_J34_linkNodeAtEnd_43 := rfl
theorem bk_J34_linkNodeAtEnd_65 : ev_prog.1 81985 = b_J34_linkNodeAtEnd_65 := rfl
theorem bk_J34_linkNodeAtEnd_75 : ev_prog.1 81995 = b_J34_linkNodeAtEnd_75 := rfl
theorem ml_J34_linkNodeAtEnd : ev_prog.2.1 20 = 3 := rfl
theorem bk_J34_newNode_0 : ev_prog.1 86016 = b_J34_newNode_0 := rfl
theorem ml_J34_newNode : ev_prog.2.1 21 = 6 := rfl
theorem bk_J40_equals_0 : ev_prog.1 90112 = b_J40_equals_0 := rfl
theorem bk_J40_equals_9 : ev_prog.1 90121 = b_J40_equals_9 := rfl
theorem bk_J40_equals_10 : ev_prog.1 90122 = b_J40_equals_10 := rfl
theorem ml_J40_equals : ev_prog.2.1 22 = 2 := rfl
theorem bk_J3_equals_0 : ev_prog.1 94208 = b_J3_equals_0 := rfl
theorem bk_J3_equals_9 : ev_prog.1 94217 = b_J3_equals_9 := rfl
theorem bk_J3_equals_26 : ev_prog.1 94234 = b_J3_equals_26 := rfl
theorem bk_J3_equals_32 : ev_prog.1 94240 = b_J3_equals_32 := rfl
theorem bk_J3_equals_34 : ev_prog.1 94242 = b_J3_equals_34 := rfl
theorem ml_J3_equals : ev_prog.2.1 23 = 3 := rfl
theorem bk_J2_equals_0 : ev_prog.1 98304 = b_J2_equals_0 := rfl
theorem bk_J2_equals_7 : ev_prog.1 98311 = b_J2_equals_7 := rfl
theorem bk_J2_equals_36 : ev_prog.1 98340 = b_J2_equals_36 := rfl
theorem bk_J2_equals_54 : ev_prog.1 98358 = b_J2_equals_54 := rfl
theorem bk_J2_equals_55 : ev_prog.1 98359 = b_J2_equals_55 := rfl
theorem ml_J2_equals : ev_prog.2.1 24 = 3 := rfl
theorem bk_X8_equals_0 : ev_prog.1 102400 = b_X8_equals_0 := rfl
theorem bk_X8_equals_49 : ev_prog.1 102449 = b_X8_equals_49 := rfl
theorem bk_X8_equals_50 : ev_prog.1 102450 = b_X8_equals_50 := rfl
theorem ml_X8_equals : ev_prog.2.1 25 = 3 := rfl
theorem bk_J1_treeifyBin_0 : ev_prog.1 106496 = b_J1_treeifyBin_0 := rfl
theorem bk_J1_treeifyBin_13 : ev_prog.1 106509 = b_J1_treeifyBin_13 := rfl
theorem bk_J1_treeifyBin_21 : ev_prog.1 106517 = b_J1_treeifyBin_21 := rfl
theorem bk_J1_treeifyBin_43 : ev_prog.1 106539 = b_J1_treeifyBin_43 := rfl
theorem bk_J1_treeifyBin_64 : ev_prog.1 106560 = b_J1_treeifyBin_64 := rfl
theorem bk_J1_treeifyBin_78 : ev_prog.1 106574 = b_J1_treeifyBin_78 := rfl
theorem bk_J1_treeifyBin_109 : ev_prog.1 106605 = b_J1_treeifyBin_109 := rfl
theorem ml_J1_treeifyBin : ev_prog.2.1 26 = 9 := rfl
theorem bk_J1_afterNodeAccess_0 : ev_prog.1 110592 = b_J1_afterNodeAccess_0 := rfl
theorem ml_J1_afterNodeAccess : ev_prog.2.1 27 = 2 := rfl
theorem bk_J34_afterNodeAccess_0 : ev_prog.1 114688 = b_J34_afterNodeAccess_0 := rfl
theorem bk_J34_afterNodeAccess_22 : ev_prog.1 114710 = b_J34_afterNodeAccess_22 := rfl
theorem bk_J34_afterNodeAccess_72 : ev_prog.1 114760 = b_J34_afterNodeAccess_72 := rfl
theorem bk_J34_afterNodeAccess_79 : ev_prog.1 114767 = b_J34_afterNodeAccess_79 := rfl
theorem bk_J34_afterNodeAccess_94 : ev_prog.1 114782 = b_J34_afterNodeAccess_94 := rfl
theorem bk_J34_afterNodeAccess_97 : ev_prog.1 114785 = b_J34_afterNodeAccess_97 := rfl
theorem bk_J34_afterNodeAccess_110 : ev_prog.1 114798 = b_J34_afterNodeAccess_110 := rfl
theorem bk_J34_afterNodeAccess_122 : ev_prog.1 114810 = b_J34_afterNodeAccess_122 := rfl
theorem bk_J34_afterNodeAccess_141 : ev_prog.1 114829 = b_J34_afterNodeAccess_141 := rfl
theorem bk_J34_afterNodeAccess_199 : ev_prog.1 114887 = b_J34_afterNodeAccess_199 := rfl
theorem bk_J34_afterNodeAccess_206 : ev_prog.1 114894 = b_J34_afterNodeAccess_206 := rfl
theorem bk_J34_afterNodeAccess_221 : ev_prog.1 114909 = b_J34_afterNodeAccess_221 := rfl
theorem bk_J34_afterNodeAccess_224 : ev_prog.1 114912 = b_J34_afterNodeAccess_224 := rfl
theorem bk_J34_afterNodeAccess_237 : ev_prog.1 114925 = b_J34_afterNodeAccess_237 := rfl
theorem bk_J34_afterNodeAccess_249 : ev_prog.1 114937 = b_J34_afterNodeAccess_249 := rfl
theorem bk_J34_afterNodeAccess_265 : ev_prog.1 114953 = b_J34_afterNodeAccess_265 := rfl
theorem ml_J34_afterNodeAccess : ev_prog.2.1 28 = 7 := rfl
theorem bk_J1_afterNodeInsertion_0 : ev_prog.1 118784 = b_J1_afterNodeInsertion_0 := rfl
theorem ml_J1_afterNodeInsertion : ev_prog.2.1 29 = 2 := rfl
theorem bk_J34_removeEldestEntry_0 : ev_prog.1 122880 = b_J34_removeEldestEntry_0 := rfl
theorem ml_J34_removeEldestEntry : ev_prog.2.1 30 = 2 := rfl
theorem bk_J34_afterNodeInsertion_0 : ev_prog.1 126976 = b_J34_afterNodeInsertion_0 := rfl
theorem bk_J34_afterNodeInsertion_39 : ev_prog.1 127015 = b_J34_afterNodeInsertion_39 := rfl
theorem ml_J34_afterNodeInsertion : ev_prog.2.1 31 = 4 := rfl
theorem bk_J1_putVal_0 : ev_prog.1 131072 = b_J1_putVal_0 := rfl
theorem bk_J1_putVal_19 : ev_prog.1 131091 = b_J1_putVal_19 := rfl
theorem bk_J1_putVal_29 : ev_prog.1 131101 = b_J1_putVal_29 := rfl
theorem bk_J1_putVal_63 : ev_prog.1 131135 = b_J1_putVal_63 := rfl
theorem bk_J1_putVal_97 : ev_prog.1 131169 = b_J1_putVal_97 := rfl
theorem bk_J1_putVal_104 : ev_prog.1 131176 = b_J1_putVal_104 := rfl
theorem bk_J1_putVal_131 : ev_prog.1 131203 = b_J1_putVal_131 := rfl
theorem bk_J1_putVal_134 : ev_prog.1 131206 = b_J1_putVal_134 := rfl
theorem bk_J1_putVal_175 : ev_prog.1 131247 = b_J1_putVal_175 := rfl
theorem bk_J1_putVal_212 : ev_prog.1 131284 = b_J1_putVal_212 := rfl
theorem bk_J1_putVal_222 : ev_prog.1 131294 = b_J1_putVal_222 := rfl
theorem bk_J1_putVal_244 : ev_prog.1 131316 = b_J1_putVal_244 := rfl
theorem bk_J1_putVal_250 : ev_prog.1 131322 = b_J1_putVal_250 := rfl
theorem bk_J1_putVal_259 : ev_prog.1 131331 = b_J1_putVal_259 := rfl
theorem bk_J1_putVal_292 : ev_prog.1 131364 = b_J1_putVal_292 := rfl
theorem ml_J1_putVal : ev_prog.2.1 32 = 13 := rfl
theorem bk_J1_put_0 : ev_prog.1 135168 = b_J1_put_0 := rfl
theorem ml_J1_put : ev_prog.2.1 33 = 3 := rfl
theorem bk_X1_puts_0 : ev_prog.1 139264 = b_X1_puts_0 := rfl
theorem ml_X1_puts : ev_prog.2.1 34 = 3 := rfl
theorem bk_X1_all_0 : ev_prog.1 143360 = b_X1_all_0 := rfl
theorem ml_X1_all : ev_prog.2.1 35 = 1 := rfl
theorem bk_J18_init_0 : ev_prog.1 147456 = b_J18_init_0 := rfl
theorem ml_J18_init : ev_prog.2.1 36 = 1 := rfl
theorem bk_J19_init_0 : ev_prog.1 151552 = b_J19_init_0 := rfl
theorem ml_J19_init : ev_prog.2.1 37 = 1 := rfl
theorem bk_J20_init_0 : ev_prog.1 155648 = b_J20_init_0 := rfl
theorem bk_J20_init_19 : ev_prog.1 155667 = b_J20_init_19 := rfl
theorem bk_J20_init_33 : ev_prog.1 155681 = b_J20_init_33 := rfl
theorem bk_J20_init_60 : ev_prog.1 155708 = b_J20_init_60 := rfl
theorem ml_J20_init : ev_prog.2.1 38 = 2 := rfl
theorem bk_J21_init_0 : ev_prog.1 159744 = b_J21_init_0 := rfl
theorem ml_J21_init : ev_prog.2.1 39 = 1 := rfl
theorem bk_X2_init_0 : ev_prog.1 163840 = b_X2_init_0 := rfl
theorem ml_X2_init : ev_prog.2.1 40 = 2 := rfl
theorem bk_X0_init_0 : ev_prog.1 167936 = b_X0_init_0 := rfl
theorem ml_X0_init : ev_prog.2.1 41 = 1 := rfl
theorem bk_X3_init_0 : ev_prog.1 172032 = b_X3_init_0 := rfl
theorem bk_X3_init_262 : ev_prog.1 172294 = b_X3_init_262 := rfl
theorem bk_X3_init_281 : ev_prog.1 172313 = b_X3_init_281 := rfl
theorem bk_X3_init_283 : ev_prog.1 172315 = b_X3_init_283 := rfl
theorem bk_X3_init_303 : ev_prog.1 172335 = b_X3_init_303 := rfl
theorem ml_X3_init : ev_prog.2.1 42 = 2 := rfl
theorem bk_X0_in_0 : ev_prog.1 176128 = b_X0_in_0 := rfl
theorem bk_X0_in_17 : ev_prog.1 176145 = b_X0_in_17 := rfl
theorem bk_X0_in_18 : ev_prog.1 176146 = b_X0_in_18 := rfl
theorem ml_X0_in : ev_prog.2.1 43 = 6 := rfl
theorem bk_X0_isRow_0 : ev_prog.1 180224 = b_X0_isRow_0 := rfl
theorem ml_X0_isRow : ev_prog.2.1 44 = 1 := rfl
theorem bk_X4_made_0 : ev_prog.1 184320 = b_X4_made_0 := rfl
theorem bk_X4_made_32 : ev_prog.1 184352 = b_X4_made_32 := rfl
theorem bk_X4_made_36 : ev_prog.1 184356 = b_X4_made_36 := rfl
theorem bk_X4_made_40 : ev_prog.1 184360 = b_X4_made_40 := rfl
theorem bk_X4_made_44 : ev_prog.1 184364 = b_X4_made_44 := rfl
theorem bk_X4_made_48 : ev_prog.1 184368 = b_X4_made_48 := rfl
theorem ml_X4_made : ev_prog.2.1 45 = 2 := rfl
theorem bk_X4_init_0 : ev_prog.1 188416 = b_X4_init_0 := rfl
theorem bk_X4_init_32 : ev_prog.1 188448 = b_X4_init_32 := rfl
theorem bk_X4_init_50 : ev_prog.1 188466 = b_X4_init_50 := rfl
theorem ml_X4_init : ev_prog.2.1 46 = 4 := rfl
theorem bk_X0_finds_0 : ev_prog.1 192512 = b_X0_finds_0 := rfl
theorem ml_X0_finds : ev_prog.2.1 47 = 2 := rfl
theorem bk_X0_row_0 : ev_prog.1 196608 = b_X0_row_0 := rfl
theorem bk_X0_row_25 : ev_prog.1 196633 = b_X0_row_25 := rfl
theorem bk_X0_row_28 : ev_prog.1 196636 = b_X0_row_28 := rfl
theorem bk_X0_row_45 : ev_prog.1 196653 = b_X0_row_45 := rfl
theorem ml_X0_row : ev_prog.2.1 48 = 5 := rfl
theorem bk_X3_in_0 : ev_prog.1 200704 = b_X3_in_0 := rfl
theorem bk_X3_in_14 : ev_prog.1 200718 = b_X3_in_14 := rfl
theorem bk_X3_in_15 : ev_prog.1 200719 = b_X3_in_15 := rfl
theorem ml_X3_in : ev_prog.2.1 49 = 3 := rfl
theorem bk_X3_isRow_0 : ev_prog.1 204800 = b_X3_isRow_0 := rfl
theorem ml_X3_isRow : ev_prog.2.1 50 = 1 := rfl
theorem bk_X3_meets_0 : ev_prog.1 208896 = b_X3_meets_0 := rfl
theorem ml_X3_meets : ev_prog.2.1 51 = 2 := rfl
theorem bk_X3_row_0 : ev_prog.1 212992 = b_X3_row_0 := rfl
theorem bk_X3_row_22 : ev_prog.1 213014 = b_X3_row_22 := rfl
theorem bk_X3_row_25 : ev_prog.1 213017 = b_X3_row_25 := rfl
theorem bk_X3_row_35 : ev_prog.1 213027 = b_X3_row_35 := rfl
theorem bk_X3_row_52 : ev_prog.1 213044 = b_X3_row_52 := rfl
theorem bk_X3_row_91 : ev_prog.1 213083 = b_X3_row_91 := rfl
theorem ml_X3_row : ev_prog.2.1 52 = 5 := rfl
theorem bk_X0_lose_0 : ev_prog.1 217088 = b_X0_lose_0 := rfl
theorem bk_X0_lose_10 : ev_prog.1 217098 = b_X0_lose_10 := rfl
theorem bk_X0_lose_29 : ev_prog.1 217117 = b_X0_lose_29 := rfl
theorem ml_X0_lose : ev_prog.2.1 53 = 3 := rfl
theorem bk_X3_lose_0 : ev_prog.1 221184 = b_X3_lose_0 := rfl
theorem bk_X3_lose_10 : ev_prog.1 221194 = b_X3_lose_10 := rfl
theorem bk_X3_lose_26 : ev_prog.1 221210 = b_X3_lose_26 := rfl
theorem bk_X3_lose_35 : ev_prog.1 221219 = b_X3_lose_35 := rfl
theorem bk_X3_lose_59 : ev_prog.1 221243 = b_X3_lose_59 := rfl
theorem ml_X3_lose : ev_prog.2.1 54 = 3 := rfl
theorem bk_X4_lays_0 : ev_prog.1 225280 = b_X4_lays_0 := rfl
theorem bk_X4_lays_32 : ev_prog.1 225312 = b_X4_lays_32 := rfl
theorem bk_X4_lays_46 : ev_prog.1 225326 = b_X4_lays_46 := rfl
theorem bk_X4_lays_59 : ev_prog.1 225339 = b_X4_lays_59 := rfl
theorem bk_X4_lays_76 : ev_prog.1 225356 = b_X4_lays_76 := rfl
theorem bk_X4_lays_94 : ev_prog.1 225374 = b_X4_lays_94 := rfl
theorem bk_X4_lays_113 : ev_prog.1 225393 = b_X4_lays_113 := rfl
theorem bk_X4_lays_114 : ev_prog.1 225394 = b_X4_lays_114 := rfl
theorem bk_X4_lays_115 : ev_prog.1 225395 = b_X4_lays_115 := rfl
theorem ml_X4_lays : ev_prog.2.1 55 = 4 := rfl
theorem bk_X0_put_0 : ev_prog.1 229376 = b_X0_put_0 := rfl
theorem bk_X0_put_19 : ev_prog.1 229395 = b_X0_put_19 := rfl
theorem bk_X0_put_22 : ev_prog.1 229398 = b_X0_put_22 := rfl
theorem bk_X0_put_37 : ev_prog.1 229413 = b_X0_put_37 := rfl
theorem bk_X0_put_45 : ev_prog.1 229421 = b_X0_put_45 := rfl
theorem bk_X0_put_53 : ev_prog.1 229429 = b_X0_put_53 := rfl
theorem ml_X0_put : ev_prog.2.1 56 = 6 := rfl
theorem bk_X3_put_0 : ev_prog.1 233472 = b_X3_put_0 := rfl
theorem bk_X3_put_16 : ev_prog.1 233488 = b_X3_put_16 := rfl
theorem bk_X3_put_19 : ev_prog.1 233491 = b_X3_put_19 := rfl
theorem bk_X3_put_33 : ev_prog.1 233505 = b_X3_put_33 := rfl
theorem bk_X3_put_47 : ev_prog.1 233519 = b_X3_put_47 := rfl
theorem bk_X3_put_67 : ev_prog.1 233539 = b_X3_put_67 := rfl
theorem bk_X3_put_68 : ev_prog.1 233540 = b_X3_put_68 := rfl
theorem bk_X3_put_82 : ev_prog.1 233554 = b_X3_put_82 := rfl
theorem bk_X3_put_103 : ev_prog.1 233575 = b_X3_put_103 := rfl
theorem bk_X3_put_114 : ev_prog.1 233586 = b_X3_put_114 := rfl
theorem bk_X3_put_129 : ev_prog.1 233601 = b_X3_put_129 := rfl
theorem bk_X3_put_144 : ev_prog.1 233616 = b_X3_put_144 := rfl
theorem bk_X3_put_149 : ev_prog.1 233621 = b_X3_put_149 := rfl
theorem ml_X3_put : ev_prog.2.1 57 = 6 := rfl
theorem bk_X0_no_0 : ev_prog.1 237568 = b_X0_no_0 := rfl
theorem ml_X0_no : ev_prog.2.1 58 = 1 := rfl
theorem bk_J27_isNaN_0 : ev_prog.1 241664 = b_J27_isNaN_0 := rfl
theorem bk_J27_isNaN_10 : ev_prog.1 241674 = b_J27_isNaN_10 := rfl
theorem bk_J27_isNaN_11 : ev_prog.1 241675 = b_J27_isNaN_11 := rfl
theorem ml_J27_isNaN : ev_prog.2.1 59 = 1 := rfl
theorem bk_J27_floatToIntBits_0 : ev_prog.1 245760 = b_J27_floatToIntBits_0 := rfl
theorem bk_J27_floatToIntBits_12 : ev_prog.1 245772 = b_J27_floatToIntBits_12 := rfl
theorem ml_J27_floatToIntBits : ev_prog.2.1 60 = 1 := rfl
theorem bk_J28_isNaN_0 : ev_prog.1 249856 = b_J28_isNaN_0 := rfl
theorem bk_J28_isNaN_10 : ev_prog.1 249866 = b_J28_isNaN_10 := rfl
theorem bk_J28_isNaN_11 : ev_prog.1 249867 = b_J28_isNaN_11 := rfl
theorem ml_J28_isNaN : ev_prog.2.1 61 = 2 := rfl
theorem bk_J28_doubleToLongBits_0 : ev_prog.1 253952 = b_J28_doubleToLongBits_0 := rfl
theorem bk_J28_doubleToLongBits_12 : ev_prog.1 253964 = b_J28_doubleToLongBits_12 := rfl
theorem ml_J28_doubleToLongBits : ev_prog.2.1 62 = 2 := rfl
theorem bk_X4_tells_0 : ev_prog.1 258048 = b_X4_tells_0 := rfl
theorem bk_X4_tells_36 : ev_prog.1 258084 = b_X4_tells_36 := rfl
theorem bk_X4_tells_47 : ev_prog.1 258095 = b_X4_tells_47 := rfl
theorem bk_X4_tells_58 : ev_prog.1 258106 = b_X4_tells_58 := rfl
theorem bk_X4_tells_72 : ev_prog.1 258120 = b_X4_tells_72 := rfl
theorem bk_X4_tells_85 : ev_prog.1 258133 = b_X4_tells_85 := rfl
theorem bk_X4_tells_101 : ev_prog.1 258149 = b_X4_tells_101 := rfl
theorem bk_X4_tells_102 : ev_prog.1 258150 = b_X4_tells_102 := rfl
theorem ml_X4_tells : ev_prog.2.1 63 = 2 := rfl
theorem bk_X0_get_0 : ev_prog.1 262144 = b_X0_get_0 := rfl
theorem bk_X0_get_13 : ev_prog.1 262157 = b_X0_get_13 := rfl
theorem bk_X0_get_24 : ev_prog.1 262168 = b_X0_get_24 := rfl
theorem bk_X0_get_34 : ev_prog.1 262178 = b_X0_get_34 := rfl
theorem ml_X0_get : ev_prog.2.1 64 = 4 := rfl
theorem bk_X3_no_0 : ev_prog.1 266240 = b_X3_no_0 := rfl
theorem ml_X3_no : ev_prog.2.1 65 = 1 := rfl
theorem bk_X3_lacks_0 : ev_prog.1 270336 = b_X3_lacks_0 := rfl
theorem bk_X3_lacks_14 : ev_prog.1 270350 = b_X3_lacks_14 := rfl
theorem bk_X3_lacks_34 : ev_prog.1 270370 = b_X3_lacks_34 := rfl
theorem bk_X3_lacks_35 : ev_prog.1 270371 = b_X3_lacks_35 := rfl
theorem ml_X3_lacks : ev_prog.2.1 66 = 3 := rfl
theorem bk_X3_bitsOf_0 : ev_prog.1 274432 = b_X3_bitsOf_0 := rfl
theorem bk_X3_bitsOf_11 : ev_prog.1 274443 = b_X3_bitsOf_11 := rfl
theorem bk_X3_bitsOf_12 : ev_prog.1 274444 = b_X3_bitsOf_12 := rfl
theorem bk_X3_bitsOf_17 : ev_prog.1 274449 = b_X3_bitsOf_17 := rfl
theorem bk_X3_bitsOf_40 : ev_prog.1 274472 = b_X3_bitsOf_40 := rfl
theorem bk_X3_bitsOf_74 : ev_prog.1 274506 = b_X3_bitsOf_74 := rfl
theorem bk_X3_bitsOf_81 : ev_prog.1 274513 = b_X3_bitsOf_81 := rfl
theorem bk_X3_bitsOf_101 : ev_prog.1 274533 = b_X3_bitsOf_101 := rfl
theorem bk_X3_bitsOf_118 : ev_prog.1 274550 = b_X3_bitsOf_118 := rfl
theorem bk_X3_bitsOf_134 : ev_prog.1 274566 = b_X3_bitsOf_134 := rfl
theorem ml_X3_bitsOf : ev_prog.2.1 67 = 11 := rfl
theorem bk_X3_toldOf_0 : ev_prog.1 278528 = b_X3_toldOf_0 := rfl
theorem bk_X3_toldOf_48 : ev_prog.1 278576 = b_X3_toldOf_48 := rfl
theorem bk_X3_toldOf_51 : ev_prog.1 278579 = b_X3_toldOf_51 := rfl
theorem bk_X3_toldOf_52 : ev_prog.1 278580 = b_X3_toldOf_52 := rfl
theorem bk_X3_toldOf_83 : ev_prog.1 278611 = b_X3_toldOf_83 := rfl
theorem bk_X3_toldOf_85 : ev_prog.1 278613 = b_X3_toldOf_85 := rfl
theorem bk_X3_toldOf_86 : ev_prog.1 278614 = b_X3_toldOf_86 := rfl
theorem ml_X3_toldOf : ev_prog.2.1 68 = 7 := rfl
theorem bk_X3_get_0 : ev_prog.1 282624 = b_X3_get_0 := rfl
theorem bk_X3_get_13 : ev_prog.1 282637 = b_X3_get_13 := rfl
theorem bk_X3_get_35 : ev_prog.1 282659 = b_X3_get_35 := rfl
theorem bk_X3_get_45 : ev_prog.1 282669 = b_X3_get_45 := rfl
theorem ml_X3_get : ev_prog.2.1 69 = 4 := rfl
theorem bk_X0_copy_0 : ev_prog.1 286720 = b_X0_copy_0 := rfl
theorem bk_X0_copy_14 : ev_prog.1 286734 = b_X0_copy_14 := rfl
theorem bk_X0_copy_17 : ev_prog.1 286737 = b_X0_copy_17 := rfl
theorem bk_X0_copy_45 : ev_prog.1 286765 = b_X0_copy_45 := rfl
theorem bk_X0_copy_53 : ev_prog.1 286773 = b_X0_copy_53 := rfl
theorem bk_X0_copy_61 : ev_prog.1 286781 = b_X0_copy_61 := rfl
theorem ml_X0_copy : ev_prog.2.1 70 = 7 := rfl
theorem bk_X3_copy_0 : ev_prog.1 290816 = b_X3_copy_0 := rfl
theorem bk_X3_copy_14 : ev_prog.1 290830 = b_X3_copy_14 := rfl
theorem bk_X3_copy_17 : ev_prog.1 290833 = b_X3_copy_17 := rfl
theorem bk_X3_copy_37 : ev_prog.1 290853 = b_X3_copy_37 := rfl
theorem bk_X3_copy_43 : ev_prog.1 290859 = b_X3_copy_43 := rfl
theorem bk_X3_copy_64 : ev_prog.1 290880 = b_X3_copy_64 := rfl
theorem bk_X3_copy_113 : ev_prog.1 290929 = b_X3_copy_113 := rfl
theorem bk_X3_copy_119 : ev_prog.1 290935 = b_X3_copy_119 := rfl
theorem bk_X3_copy_122 : ev_prog.1 290938 = b_X3_copy_122 := rfl
theorem bk_X3_copy_156 : ev_prog.1 290972 = b_X3_copy_156 := rfl
theorem bk_X3_copy_159 : ev_prog.1 290975 = b_X3_copy_159 := rfl
theorem bk_X3_copy_194 : ev_prog.1 291010 = b_X3_copy_194 := rfl
theorem ml_X3_copy : ev_prog.2.1 71 = 7 := rfl
theorem bk_J21_sub_0 : ev_prog.1 294912 = b_J21_sub_0 := rfl
theorem bk_J21_sub_12 : ev_prog.1 294924 = b_J21_sub_12 := rfl
theorem ml_J21_sub : ev_prog.2.1 72 = 3 := rfl
theorem bk_J21_size_0 : ev_prog.1 299008 = b_J21_size_0 := rfl
theorem ml_J21_size : ev_prog.2.1 73 = 1 := rfl
theorem bk_J21_elementAt_0 : ev_prog.1 303104 = b_J21_elementAt_0 := rfl
theorem ml_J21_elementAt : ev_prog.2.1 74 = 2 := rfl
theorem bk_J21_inc_0 : ev_prog.1 307200 = b_J21_inc_0 := rfl
theorem bk_J21_inc_10 : ev_prog.1 307210 = b_J21_inc_10 := rfl
theorem ml_J21_inc : ev_prog.2.1 75 = 2 := rfl
theorem bk_J21_pollFirst_0 : ev_prog.1 311296 = b_J21_pollFirst_0 := rfl
theorem bk_J21_pollFirst_34 : ev_prog.1 311330 = b_J21_pollFirst_34 := rfl
theorem ml_J21_pollFirst : ev_prog.2.1 76 = 4 := rfl
theorem bk_X5_init_0 : ev_prog.1 315392 = b_X5_init_0 := rfl
theorem ml_X5_init : ev_prog.2.1 77 = 2 := rfl
theorem bk_J21_newCapacity_0 : ev_prog.1 319488 = b_J21_newCapacity_0 := rfl
theorem bk_J21_newCapacity_33 : ev_prog.1 319521 = b_J21_newCapacity_33 := rfl
theorem bk_J21_newCapacity_36 : ev_prog.1 319524 = b_J21_newCapacity_36 := rfl
theorem bk_J21_newCapacity_44 : ev_prog.1 319532 = b_J21_newCapacity_44 := rfl
theorem bk_J21_newCapacity_59 : ev_prog.1 319547 = b_J21_newCapacity_59 := rfl
theorem bk_J21_newCapacity_61 : ev_prog.1 319549 = b_J21_newCapacity_61 := rfl
theorem ml_J21_newCapacity : ev_prog.2.1 78 = 5 := rfl
theorem bk_J8_min_0 : ev_prog.1 323584 = b_J8_min_0 := rfl
theorem bk_J8_min_9 : ev_prog.1 323593 = b_J8_min_9 := rfl
theorem bk_J8_min_10 : ev_prog.1 323594 = b_J8_min_10 := rfl
theorem ml_J8_min : ev_prog.2.1 79 = 2 := rfl
theorem bk_J30_copyOf_2_0 : ev_prog.1 327680 = b_J30_copyOf_2_0 := rfl
theorem bk_J30_copyOf_2_13 : ev_prog.1 327693 = b_J30_copyOf_2_13 := rfl
theorem bk_J30_copyOf_2_24 : ev_prog.1 327704 = b_J30_copyOf_2_24 := rfl
theorem ml_J30_copyOf_2 : ev_prog.2.1 80 = 4 := rfl
theorem bk_J30_copyOf_0 : ev_prog.1 331776 = b_J30_copyOf_0 := rfl
theorem ml_J30_copyOf : ev_prog.2.1 81 = 2 := rfl
theorem bk_J21_grow_0 : ev_prog.1 335872 = b_J21_grow_0 := rfl
theorem bk_J21_grow_18 : ev_prog.1 335890 = b_J21_grow_18 := rfl
theorem bk_J21_grow_21 : ev_prog.1 335893 = b_J21_grow_21 := rfl
theorem bk_J21_grow_41 : ev_prog.1 335913 = b_J21_grow_41 := rfl
theorem bk_J21_grow_49 : ev_prog.1 335921 = b_J21_grow_49 := rfl
theorem bk_J21_grow_96 : ev_prog.1 335968 = b_J21_grow_96 := rfl
theorem bk_J21_grow_145 : ev_prog.1 336017 = b_J21_grow_145 := rfl
theorem bk_J21_grow_164 : ev_prog.1 336036 = b_J21_grow_164 := rfl
theorem ml_J21_grow : ev_prog.2.1 82 = 9 := rfl
theorem bk_J21_addLast_0 : ev_prog.1 339968 = b_J21_addLast_0 := rfl
theorem bk_J21_addLast_12 : ev_prog.1 339980 = b_J21_addLast_12 := rfl
theorem bk_J21_addLast_50 : ev_prog.1 340018 = b_J21_addLast_50 := rfl
theorem ml_J21_addLast : ev_prog.2.1 83 = 3 := rfl
theorem bk_X0_tells_0 : ev_prog.1 344064 = b_X0_tells_0 := rfl
theorem bk_X0_tells_20 : ev_prog.1 344084 = b_X0_tells_20 := rfl
theorem ml_X0_tells : ev_prog.2.1 84 = 2 := rfl
theorem bk_X0_turns_0 : ev_prog.1 348160 = b_X0_turns_0 := rfl
theorem bk_X0_turns_15 : ev_prog.1 348175 = b_X0_turns_15 := rfl
theorem ml_X0_turns : ev_prog.2.1 85 = 3 := rfl
theorem bk_X3_logs_0 : ev_prog.1 352256 = b_X3_logs_0 := rfl
theorem bk_X3_logs_13 : ev_prog.1 352269 = b_X3_logs_13 := rfl
theorem bk_X3_logs_43 : ev_prog.1 352299 = b_X3_logs_43 := rfl
theorem bk_X3_logs_53 : ev_prog.1 352309 = b_X3_logs_53 := rfl
theorem ml_X3_logs : ev_prog.2.1 86 = 7 := rfl
theorem bk_X3_turns_0 : ev_prog.1 356352 = b_X3_turns_0 := rfl
theorem bk_X3_turns_13 : ev_prog.1 356365 = b_X3_turns_13 := rfl
theorem ml_X3_turns : ev_prog.2.1 87 = 3 := rfl
theorem bk_X0_type_0 : ev_prog.1 360448 = b_X0_type_0 := rfl
theorem bk_X0_type_15 : ev_prog.1 360463 = b_X0_type_15 := rfl
theorem bk_X0_type_26 : ev_prog.1 360474 = b_X0_type_26 := rfl
theorem ml_X0_type : ev_prog.2.1 88 = 2 := rfl
theorem bk_X3_type_0 : ev_prog.1 364544 = b_X3_type_0 := rfl
theorem bk_X3_type_14 : ev_prog.1 364558 = b_X3_type_14 := rfl
theorem bk_X3_type_25 : ev_prog.1 364569 = b_X3_type_25 := rfl
theorem ml_X3_type : ev_prog.2.1 89 = 2 := rfl
theorem bk_X0_wipe_0 : ev_prog.1 368640 = b_X0_wipe_0 := rfl
theorem ml_X0_wipe : ev_prog.2.1 90 = 2 := rfl
theorem bk_X3_wipe_0 : ev_prog.1 372736 = b_X3_wipe_0 := rfl
theorem ml_X3_wipe : ev_prog.2.1 91 = 2 := rfl
theorem bk_J31_init_0 : ev_prog.1 376832 = b_J31_init_0 := rfl
theorem bk_J31_init_25 : ev_prog.1 376857 = b_J31_init_25 := rfl
theorem bk_J31_init_38 : ev_prog.1 376870 = b_J31_init_38 := rfl
theorem ml_J31_init : ev_prog.2.1 92 = 2 := rfl
theorem bk_J32_init_0 : ev_prog.1 380928 = b_J32_init_0 := rfl
theorem ml_J32_init : ev_prog.2.1 93 = 2 := rfl
theorem bk_J8_max_0 : ev_prog.1 385024 = b_J8_max_0 := rfl
theorem bk_J8_max_9 : ev_prog.1 385033 = b_J8_max_9 := rfl
theorem bk_J8_max_10 : ev_prog.1 385034 = b_J8_max_10 := rfl
theorem ml_J8_max : ev_prog.2.1 94 = 2 := rfl
theorem bk_J4_hugeLength_0 : ev_prog.1 389120 = b_J4_hugeLength_0 := rfl
theorem bk_J4_hugeLength_49 : ev_prog.1 389169 = b_J4_hugeLength_49 := rfl
theorem bk_J4_hugeLength_58 : ev_prog.1 389178 = b_J4_hugeLength_58 := rfl
theorem ml_J4_hugeLength : ev_prog.2.1 95 = 3 := rfl
theorem bk_J4_newLength_0 : ev_prog.1 393216 = b_J4_newLength_0 := rfl
theorem bk_J4_newLength_21 : ev_prog.1 393237 = b_J4_newLength_21 := rfl
theorem ml_J4_newLength : ev_prog.2.1 96 = 4 := rfl
theorem bk_J31_newCapacity_0 : ev_prog.1 397312 = b_J31_newCapacity_0 := rfl
theorem bk_J31_newCapacity_51 : ev_prog.1 397363 = b_J31_newCapacity_51 := rfl
theorem ml_J31_newCapacity : ev_prog.2.1 97 = 6 := rfl
theorem bk_J30_copyOf_3_0 : ev_prog.1 401408 = b_J30_copyOf_3_0 := rfl
theorem bk_J30_copyOf_3_14 : ev_prog.1 401422 = b_J30_copyOf_3_14 := rfl
theorem ml_J30_copyOf_3 : ev_prog.2.1 98 = 3 := rfl
theorem bk_J31_ensureCapacityInternal_0 : ev_prog.1 405504 = b_J31_ensureCapacityInternal_0 := rfl
theorem bk_J31_ensureCapacityInternal_38 : ev_prog.1 405542 = b_J31_ensureCapacityInternal_38 := rfl
theorem ml_J31_ensureCapacityInternal : ev_prog.2.1 99 = 3 := rfl
theorem bk_J31_isLatin1_0 : ev_prog.1 409600 = b_J31_isLatin1_0 := rfl
theorem bk_J31_isLatin1_17 : ev_prog.1 409617 = b_J31_isLatin1_17 := rfl
theorem bk_J31_isLatin1_18 : ev_prog.1 409618 = b_J31_isLatin1_18 := rfl
theorem ml_J31_isLatin1 : ev_prog.2.1 100 = 1 := rfl
theorem bk_J3_canEncode_0 : ev_prog.1 413696 = b_J3_canEncode_0 := rfl
theorem bk_J3_canEncode_11 : ev_prog.1 413707 = b_J3_canEncode_11 := rfl
theorem bk_J3_canEncode_12 : ev_prog.1 413708 = b_J3_canEncode_12 := rfl
theorem ml_J3_canEncode : ev_prog.2.1 101 = 1 := rfl
theorem bk_J31_append_0 : ev_prog.1 417792 = b_J31_append_0 := rfl
theorem bk_J31_append_45 : ev_prog.1 417837 = b_J31_append_45 := rfl
theorem bk_J31_append_56 : ev_prog.1 417848 = b_J31_append_56 := rfl
theorem bk_J31_append_75 : ev_prog.1 417867 = b_J31_append_75 := rfl
theorem ml_J31_append : ev_prog.2.1 102 = 2 := rfl
theorem bk_J32_append_0 : ev_prog.1 421888 = b_J32_append_0 := rfl
theorem ml_J32_append : ev_prog.2.1 103 = 2 := rfl
theorem bk_J31_getValue_0 : ev_prog.1 425984 = b_J31_getValue_0 := rfl
theorem ml_J31_getValue : ev_prog.2.1 104 = 1 := rfl
theorem bk_J31_length_0 : ev_prog.1 430080 = b_J31_length_0 := rfl
theorem ml_J31_length : ev_prog.2.1 105 = 1 := rfl
theorem bk_J32_length_0 : ev_prog.1 434176 = b_J32_length_0 := rfl
theorem ml_J32_length : ev_prog.2.1 106 = 1 := rfl
theorem bk_J30_checkLength_0 : ev_prog.1 438272 = b_J30_checkLength_0 := rfl
theorem bk_J30_checkLength_37 : ev_prog.1 438309 = b_J30_checkLength_37 := rfl
theorem ml_J30_checkLength : ev_prog.2.1 107 = 2 := rfl
theorem bk_J30_copyOfRangeByte_0 : ev_prog.1 442368 = b_J30_copyOfRangeByte_0 := rfl
theorem ml_J30_copyOfRangeByte : ev_prog.2.1 108 = 5 := rfl
theorem bk_J30_copyOfRange_0 : ev_prog.1 446464 = b_J30_copyOfRange_0 := rfl
theorem bk_J30_copyOfRange_10 : ev_prog.1 446474 = b_J30_copyOfRange_10 := rfl
theorem bk_J30_copyOfRange_17 : ev_prog.1 446481 = b_J30_copyOfRange_17 := rfl
theorem ml_J30_copyOfRange : ev_prog.2.1 109 = 3 := rfl
theorem bk_J2_init_2_0 : ev_prog.1 450560 = b_J2_init_2_0 := rfl
theorem bk_J2_init_2_41 : ev_prog.1 450601 = b_J2_init_2_41 := rfl
theorem bk_J2_init_2_79 : ev_prog.1 450639 = b_J2_init_2_79 := rfl
theorem bk_J2_init_2_97 : ev_prog.1 450657 = b_J2_init_2_97 := rfl
theorem ml_J2_init_2 : ev_prog.2.1 110 = 5 := rfl
theorem bk_J2_init_0 : ev_prog.1 454656 = b_J2_init_0 := rfl
theorem ml_J2_init : ev_prog.2.1 111 = 2 := rfl
theorem bk_J32_toString_0 : ev_prog.1 458752 = b_J32_toString_0 := rfl
theorem ml_J32_toString : ev_prog.2.1 112 = 1 := rfl
theorem bk_J1_getNode_0 : ev_prog.1 462848 = b_J1_getNode_0 := rfl
theorem bk_J1_getNode_69 : ev_prog.1 462917 = b_J1_getNode_69 := rfl
theorem bk_J1_getNode_71 : ev_prog.1 462919 = b_J1_getNode_71 := rfl
theorem bk_J1_getNode_99 : ev_prog.1 462947 = b_J1_getNode_99 := rfl
theorem bk_J1_getNode_134 : ev_prog.1 462982 = b_J1_getNode_134 := rfl
theorem bk_J1_getNode_137 : ev_prog.1 462985 = b_J1_getNode_137 := rfl
theorem bk_J1_getNode_148 : ev_prog.1 462996 = b_J1_getNode_148 := rfl
theorem ml_J1_getNode : ev_prog.2.1 113 = 8 := rfl
theorem bk_J1_get_0 : ev_prog.1 466944 = b_J1_get_0 := rfl
theorem bk_J1_get_14 : ev_prog.1 466958 = b_J1_get_14 := rfl
theorem bk_J1_get_18 : ev_prog.1 466962 = b_J1_get_18 := rfl
theorem ml_J1_get : ev_prog.2.1 114 = 3 := rfl
theorem bk_J34_get_0 : ev_prog.1 471040 = b_J34_get_0 := rfl
theorem bk_J34_get_12 : ev_prog.1 471052 = b_J34_get_12 := rfl
theorem bk_J34_get_24 : ev_prog.1 471064 = b_J34_get_24 := rfl
theorem ml_J34_get : ev_prog.2.1 115 = 3 := rfl
theorem bk_X0_named_0 : ev_prog.1 475136 = b_X0_named_0 := rfl
theorem bk_X0_named_11 : ev_prog.1 475147 = b_X0_named_11 := rfl
theorem bk_X0_named_39 : ev_prog.1 475175 = b_X0_named_39 := rfl
theorem bk_X0_named_41 : ev_prog.1 475177 = b_X0_named_41 := rfl
theorem bk_X0_named_51 : ev_prog.1 475187 = b_X0_named_51 := rfl
theorem ml_X0_named : ev_prog.2.1 116 = 3 := rfl
theorem bk_J20_size_0 : ev_prog.1 479232 = b_J20_size_0 := rfl
theorem ml_J20_size : ev_prog.2.1 117 = 1 := rfl
theorem bk_X7_init_0 : ev_prog.1 483328 = b_X7_init_0 := rfl
theorem ml_X7_init : ev_prog.2.1 118 = 2 := rfl
theorem bk_X6_init_0 : ev_prog.1 487424 = b_X6_init_0 := rfl
theorem ml_X6_init : ev_prog.2.1 119 = 4 := rfl
theorem bk_J20_grow_2_0 : ev_prog.1 491520 = b_J20_grow_2_0 := rfl
theorem bk_J20_grow_2_20 : ev_prog.1 491540 = b_J20_grow_2_20 := rfl
theorem bk_J20_grow_2_45 : ev_prog.1 491565 = b_J20_grow_2_45 := rfl
theorem ml_J20_grow_2 : ev_prog.2.1 120 = 4 := rfl
theorem bk_J20_grow_0 : ev_prog.1 495616 = b_J20_grow_0 := rfl
theorem ml_J20_grow : ev_prog.2.1 121 = 1 := rfl
theorem bk_J20_add_2_0 : ev_prog.1 499712 = b_J20_add_2_0 := rfl
theorem bk_J20_add_2_11 : ev_prog.1 499723 = b_J20_add_2_11 := rfl
theorem ml_J20_add_2 : ev_prog.2.1 122 = 4 := rfl
theorem bk_J20_add_0 : ev_prog.1 503808 = b_J20_add_0 := rfl
theorem ml_J20_add : ev_prog.2.1 123 = 2 := rfl
theorem bk_X0_statement_0 : ev_prog.1 507904 = b_X0_statement_0 := rfl
theorem bk_X0_statement_15 : ev_prog.1 507919 = b_X0_statement_15 := rfl
theorem bk_X0_statement_27 : ev_prog.1 507931 = b_X0_statement_27 := rfl
theorem bk_X0_statement_41 : ev_prog.1 507945 = b_X0_statement_41 := rfl
theorem ml_X0_statement : ev_prog.2.1 124 = 3 := rfl
theorem bk_X3_isTyped_0 : ev_prog.1 512000 = b_X3_isTyped_0 := rfl
theorem bk_X3_isTyped_9 : ev_prog.1 512009 = b_X3_isTyped_9 := rfl
theorem bk_X3_isTyped_18 : ev_prog.1 512018 = b_X3_isTyped_18 := rfl
theorem bk_X3_isTyped_26 : ev_prog.1 512026 = b_X3_isTyped_26 := rfl
theorem bk_X3_isTyped_27 : ev_prog.1 512027 = b_X3_isTyped_27 := rfl
theorem bk_X3_isTyped_62 : ev_prog.1 512062 = b_X3_isTyped_62 := rfl
theorem bk_X3_isTyped_63 : ev_prog.1 512063 = b_X3_isTyped_63 := rfl
theorem bk_X3_isTyped_86 : ev_prog.1 512086 = b_X3_isTyped_86 := rfl
theorem bk_X3_isTyped_103 : ev_prog.1 512103 = b_X3_isTyped_103 := rfl
theorem bk_X3_isTyped_107 : ev_prog.1 512107 = b_X3_isTyped_107 := rfl
theorem bk_X3_isTyped_108 : ev_prog.1 512108 = b_X3_isTyped_108 := rfl
theorem bk_X3_isTyped_132 : ev_prog.1 512132 = b_X3_isTyped_132 := rfl
theorem bk_X3_isTyped_136 : ev_prog.1 512136 = b_X3_isTyped_136 := rfl
theorem bk_X3_isTyped_137 : ev_prog.1 512137 = b_X3_isTyped_137 := rfl
theorem ml_X3_isTyped : ev_prog.2.1 125 = 8 := rfl
theorem bk_X3_isName_0 : ev_prog.1 516096 = b_X3_isName_0 := rfl
theorem bk_X3_isName_64 : ev_prog.1 516160 = b_X3_isName_64 := rfl
theorem bk_X3_isName_77 : ev_prog.1 516173 = b_X3_isName_77 := rfl
theorem bk_X3_isName_90 : ev_prog.1 516186 = b_X3_isName_90 := rfl
theorem bk_X3_isName_103 : ev_prog.1 516199 = b_X3_isName_103 := rfl
theorem bk_X3_isName_116 : ev_prog.1 516212 = b_X3_isName_116 := rfl
theorem bk_X3_isName_129 : ev_prog.1 516225 = b_X3_isName_129 := rfl
theorem bk_X3_isName_142 : ev_prog.1 516238 = b_X3_isName_142 := rfl
theorem bk_X3_isName_155 : ev_prog.1 516251 = b_X3_isName_155 := rfl
theorem bk_X3_isName_167 : ev_prog.1 516263 = b_X3_isName_167 := rfl
theorem bk_X3_isName_180 : ev_prog.1 516276 = b_X3_isName_180 := rfl
theorem bk_X3_isName_194 : ev_prog.1 516290 = b_X3_isName_194 := rfl
theorem bk_X3_isName_208 : ev_prog.1 516304 = b_X3_isName_208 := rfl
theorem bk_X3_isName_222 : ev_prog.1 516318 = b_X3_isName_222 := rfl
theorem ml_X3_isName : ev_prog.2.1 126 = 2 := rfl
theorem bk_X3_statement_0 : ev_prog.1 520192 = b_X3_statement_0 := rfl
theorem bk_X3_statement_12 : ev_prog.1 520204 = b_X3_statement_12 := rfl
theorem bk_X3_statement_16 : ev_prog.1 520208 = b_X3_statement_16 := rfl
theorem bk_X3_statement_34 : ev_prog.1 520226 = b_X3_statement_34 := rfl
theorem bk_X3_statement_35 : ev_prog.1 520227 = b_X3_statement_35 := rfl
theorem bk_X3_statement_42 : ev_prog.1 520234 = b_X3_statement_42 := rfl
theorem bk_X3_statement_50 : ev_prog.1 520242 = b_X3_statement_50 := rfl
theorem bk_X3_statement_61 : ev_prog.1 520253 = b_X3_statement_61 := rfl
theorem bk_X3_statement_135 : ev_prog.1 520327 = b_X3_statement_135 := rfl
theorem bk_X3_statement_162 : ev_prog.1 520354 = b_X3_statement_162 := rfl
theorem bk_X3_statement_163 : ev_prog.1 520355 = b_X3_statement_163 := rfl
theorem bk_X3_statement_191 : ev_prog.1 520383 = b_X3_statement_191 := rfl
theorem ml_X3_statement : ev_prog.2.1 127 = 4 := rfl
theorem bk_X0_isStatement_0 : ev_prog.1 524288 = b_X0_isStatement_0 := rfl
theorem ml_X0_isStatement : ev_prog.2.1 128 = 2 := rfl
theorem bk_X0_isReference_0 : ev_prog.1 528384 = b_X0_isReference_0 := rfl
theorem bk_X0_isReference_24 : ev_prog.1 528408 = b_X0_isReference_24 := rfl
theorem bk_X0_isReference_25 : ev_prog.1 528409 = b_X0_isReference_25 := rfl
theorem ml_X0_isReference : ev_prog.2.1 129 = 3 := rfl
theorem bk_J12_checkIndex_0 : ev_prog.1 532480 = b_J12_checkIndex_0 := rfl
theorem bk_J12_checkIndex_9 : ev_prog.1 532489 = b_J12_checkIndex_9 := rfl
theorem bk_J12_checkIndex_16 : ev_prog.1 532496 = b_J12_checkIndex_16 := rfl
theorem ml_J12_checkIndex : ev_prog.2.1 130 = 3 := rfl
theorem bk_J33_checkIndex_0 : ev_prog.1 536576 = b_J33_checkIndex_0 := rfl
theorem ml_J33_checkIndex : ev_prog.2.1 131 = 2 := rfl
theorem bk_J20_elementData_0 : ev_prog.1 540672 = b_J20_elementData_0 := rfl
theorem ml_J20_elementData : ev_prog.2.1 132 = 2 := rfl
theorem bk_J20_get_0 : ev_prog.1 544768 = b_J20_get_0 := rfl
theorem ml_J20_get : ev_prog.2.1 133 = 2 := rfl
theorem bk_X6_at_0 : ev_prog.1 548864 = b_X6_at_0 := rfl
theorem ml_X6_at : ev_prog.2.1 134 = 2 := rfl
theorem bk_X0_refer_0 : ev_prog.1 552960 = b_X0_refer_0 := rfl
theorem bk_X0_refer_25 : ev_prog.1 552985 = b_X0_refer_25 := rfl
theorem bk_X0_refer_28 : ev_prog.1 552988 = b_X0_refer_28 := rfl
theorem ml_X0_refer : ev_prog.2.1 135 = 6 := rfl
theorem bk_X3_isStatement_0 : ev_prog.1 557056 = b_X3_isStatement_0 := rfl
theorem ml_X3_isStatement : ev_prog.2.1 136 = 2 := rfl
theorem bk_X3_refer_0 : ev_prog.1 561152 = b_X3_refer_0 := rfl
theorem bk_X3_refer_26 : ev_prog.1 561178 = b_X3_refer_26 := rfl
theorem bk_X3_refer_27 : ev_prog.1 561179 = b_X3_refer_27 := rfl
theorem bk_X3_refer_34 : ev_prog.1 561186 = b_X3_refer_34 := rfl
theorem bk_X3_refer_37 : ev_prog.1 561189 = b_X3_refer_37 := rfl
theorem ml_X3_refer : ev_prog.2.1 137 = 5 := rfl
theorem bk_X7_moves_0 : ev_prog.1 565248 = b_X7_moves_0 := rfl
theorem ml_X7_moves : ev_prog.2.1 138 = 4 := rfl
theorem bk_X0_place_0 : ev_prog.1 569344 = b_X0_place_0 := rfl
theorem bk_X0_place_53 : ev_prog.1 569397 = b_X0_place_53 := rfl
theorem bk_X0_place_56 : ev_prog.1 569400 = b_X0_place_56 := rfl
theorem ml_X0_place : ev_prog.2.1 139 = 10 := rfl
theorem bk_X3_place_0 : ev_prog.1 573440 = b_X3_place_0 := rfl
theorem bk_X3_place_52 : ev_prog.1 573492 = b_X3_place_52 := rfl
theorem bk_X3_place_55 : ev_prog.1 573495 = b_X3_place_55 := rfl
theorem ml_X3_place : ev_prog.2.1 140 = 7 := rfl
theorem bk_X6_waits_0 : ev_prog.1 577536 = b_X6_waits_0 := rfl
theorem ml_X6_waits : ev_prog.2.1 141 = 3 := rfl
theorem bk_X0_guard_0 : ev_prog.1 581632 = b_X0_guard_0 := rfl
theorem bk_X0_guard_33 : ev_prog.1 581665 = b_X0_guard_33 := rfl
theorem bk_X0_guard_36 : ev_prog.1 581668 = b_X0_guard_36 := rfl
theorem ml_X0_guard : ev_prog.2.1 142 = 7 := rfl
theorem bk_X3_guard_0 : ev_prog.1 585728 = b_X3_guard_0 := rfl
theorem bk_X3_guard_29 : ev_prog.1 585757 = b_X3_guard_29 := rfl
theorem bk_X3_guard_32 : ev_prog.1 585760 = b_X3_guard_32 := rfl
theorem ml_X3_guard : ev_prog.2.1 143 = 4 := rfl
theorem bk_X0_mask_0 : ev_prog.1 589824 = b_X0_mask_0 := rfl
theorem bk_X0_mask_22 : ev_prog.1 589846 = b_X0_mask_22 := rfl
theorem bk_X0_mask_25 : ev_prog.1 589849 = b_X0_mask_25 := rfl
theorem ml_X0_mask : ev_prog.2.1 144 = 5 := rfl
theorem bk_X3_mask_0 : ev_prog.1 593920 = b_X3_mask_0 := rfl
theorem bk_X3_mask_17 : ev_prog.1 593937 = b_X3_mask_17 := rfl
theorem bk_X3_mask_20 : ev_prog.1 593940 = b_X3_mask_20 := rfl
theorem ml_X3_mask : ev_prog.2.1 145 = 4 := rfl
theorem bk_J21_dec_0 : ev_prog.1 598016 = b_J21_dec_0 := rfl
theorem bk_J21_dec_11 : ev_prog.1 598027 = b_J21_dec_11 := rfl
theorem ml_J21_dec : ev_prog.2.1 146 = 2 := rfl
theorem bk_J21_pollLast_0 : ev_prog.1 602112 = b_J21_pollLast_0 := rfl
theorem bk_J21_pollLast_34 : ev_prog.1 602146 = b_J21_pollLast_34 := rfl
theorem ml_J21_pollLast : ev_prog.2.1 147 = 4 := rfl
theorem bk_X0_lambda_turns_0_0 : ev_prog.1 606208 = b_X0_lambda_turns_0_0 := rfl
theorem ml_X0_lambda_turns_0 : ev_prog.2.1 148 = 2 := rfl
theorem bk_J20_fastRemove_0 : ev_prog.1 610304 = b_J20_fastRemove_0 := rfl
theorem bk_J20_fastRemove_34 : ev_prog.1 610338 = b_J20_fastRemove_34 := rfl
theorem ml_J20_fastRemove : ev_prog.2.1 149 = 4 := rfl
theorem bk_J20_remove_0 : ev_prog.1 614400 = b_J20_remove_0 := rfl
theorem ml_J20_remove : ev_prog.2.1 150 = 4 := rfl
theorem bk_X0_lambda_statement_1_0 : ev_prog.1 618496 = b_X0_lambda_statement_1_0 := rfl
theorem ml_X0_lambda_statement_1 : ev_prog.2.1 151 = 1 := rfl
theorem bk_X0_lambda_refer_2_0 : ev_prog.1 622592 = b_X0_lambda_refer_2_0 := rfl
theorem ml_X0_lambda_refer_2 : ev_prog.2.1 152 = 2 := rfl
theorem bk_X0_lambda_place_3_0 : ev_prog.1 626688 = b_X0_lambda_place_3_0 := rfl
theorem ml_X0_lambda_place_3 : ev_prog.2.1 153 = 4 := rfl
theorem bk_X0_lambda_guard_4_0 : ev_prog.1 630784 = b_X0_lambda_guard_4_0 := rfl
theorem ml_X0_lambda_guard_4 : ev_prog.2.1 154 = 3 := rfl
theorem bk_X0_lambda_mask_5_0 : ev_prog.1 634880 = b_X0_lambda_mask_5_0 := rfl
theorem ml_X0_lambda_mask_5 : ev_prog.2.1 155 = 2 := rfl
theorem bk_X0_undo_0 : ev_prog.1 638976 = b_X0_undo_0 := rfl
theorem bk_X0_undo_20 : ev_prog.1 638996 = b_X0_undo_20 := rfl
theorem bk_X0_undo_29 : ev_prog.1 639005 = b_X0_undo_29 := rfl
theorem ml_X0_undo : ev_prog.2.1 156 = 2 := rfl
theorem bk_X3_undo_0 : ev_prog.1 643072 = b_X3_undo_0 := rfl
theorem bk_X3_undo_10 : ev_prog.1 643082 = b_X3_undo_10 := rfl
theorem bk_X3_undo_116 : ev_prog.1 643188 = b_X3_undo_116 := rfl
theorem bk_X3_undo_124 : ev_prog.1 643196 = b_X3_undo_124 := rfl
theorem bk_X3_undo_137 : ev_prog.1 643209 = b_X3_undo_137 := rfl
theorem bk_X3_undo_147 : ev_prog.1 643219 = b_X3_undo_147 := rfl
theorem bk_X3_undo_185 : ev_prog.1 643257 = b_X3_undo_185 := rfl
theorem bk_X3_undo_203 : ev_prog.1 643275 = b_X3_undo_203 := rfl
theorem bk_X3_undo_210 : ev_prog.1 643282 = b_X3_undo_210 := rfl
theorem ml_X3_undo : ev_prog.2.1 157 = 5 := rfl
theorem bk_X4_isNumbers_0 : ev_prog.1 647168 = b_X4_isNumbers_0 := rfl
theorem bk_X4_isNumbers_12 : ev_prog.1 647180 = b_X4_isNumbers_12 := rfl
theorem bk_X4_isNumbers_13 : ev_prog.1 647181 = b_X4_isNumbers_13 := rfl
theorem ml_X4_isNumbers : ev_prog.2.1 158 = 1 := rfl
theorem bk_X0_numbers_0 : ev_prog.1 651264 = b_X0_numbers_0 := rfl
theorem bk_X0_numbers_22 : ev_prog.1 651286 = b_X0_numbers_22 := rfl
theorem bk_X0_numbers_23 : ev_prog.1 651287 = b_X0_numbers_23 := rfl
theorem ml_X0_numbers : ev_prog.2.1 159 = 3 := rfl
theorem bk_X7_isAlike_0 : ev_prog.1 655360 = b_X7_isAlike_0 := rfl
theorem bk_X7_isAlike_48 : ev_prog.1 655408 = b_X7_isAlike_48 := rfl
theorem bk_X7_isAlike_49 : ev_prog.1 655409 = b_X7_isAlike_49 := rfl
theorem ml_X7_isAlike : ev_prog.2.1 160 = 2 := rfl
theorem bk_X6_gathers_0 : ev_prog.1 659456 = b_X6_gathers_0 := rfl
theorem bk_X6_gathers_45 : ev_prog.1 659501 = b_X6_gathers_45 := rfl
theorem bk_X6_gathers_47 : ev_prog.1 659503 = b_X6_gathers_47 := rfl
theorem bk_X6_gathers_74 : ev_prog.1 659530 = b_X6_gathers_74 := rfl
theorem bk_X6_gathers_91 : ev_prog.1 659547 = b_X6_gathers_91 := rfl
theorem bk_X6_gathers_132 : ev_prog.1 659588 = b_X6_gathers_132 := rfl
theorem bk_X6_gathers_136 : ev_prog.1 659592 = b_X6_gathers_136 := rfl
theorem bk_X6_gathers_140 : ev_prog.1 659596 = b_X6_gathers_140 := rfl
theorem bk_X6_gathers_155 : ev_prog.1 659611 = b_X6_gathers_155 := rfl
theorem bk_X6_gathers_156 : ev_prog.1 659612 = b_X6_gathers_156 := rfl
theorem bk_X6_gathers_173 : ev_prog.1 659629 = b_X6_gathers_173 := rfl
theorem bk_X6_gathers_174 : ev_prog.1 659630 = b_X6_gathers_174 := rfl
theorem ml_X6_gathers : ev_prog.2.1 161 = 7 := rfl
theorem bk_X6_family_0 : ev_prog.1 663552 = b_X6_family_0 := rfl
theorem bk_X6_family_24 : ev_prog.1 663576 = b_X6_family_24 := rfl
theorem bk_X6_family_32 : ev_prog.1 663584 = b_X6_family_32 := rfl
theorem ml_X6_family : ev_prog.2.1 162 = 2 := rfl
theorem bk_X6_lambda_new_0_0 : ev_prog.1 667648 = b_X6_lambda_new_0_0 := rfl
theorem ml_X6_lambda_new_0 : ev_prog.2.1 163 = 1 := rfl
theorem bk_X6_lambda_waits_1_0 : ev_prog.1 671744 = b_X6_lambda_waits_1_0 := rfl
theorem bk_X6_lambda_waits_1_11 : ev_prog.1 671755 = b_X6_lambda_waits_1_11 := rfl
theorem bk_X6_lambda_waits_1_12 : ev_prog.1 671756 = b_X6_lambda_waits_1_12 := rfl
theorem ml_X6_lambda_waits_1 : ev_prog.2.1 164 = 3 := rfl
theorem bk_X4_has_0 : ev_prog.1 675840 = b_X4_has_0 := rfl
theorem ml_X4_has : ev_prog.2.1 165 = 2 := rfl
theorem bk_X4_isTrue_0 : ev_prog.1 679936 = b_X4_isTrue_0 := rfl
theorem bk_X4_isTrue_32 : ev_prog.1 679968 = b_X4_isTrue_32 := rfl
theorem bk_X4_isTrue_33 : ev_prog.1 679969 = b_X4_isTrue_33 := rfl
theorem ml_X4_isTrue : ev_prog.2.1 166 = 2 := rfl
theorem bk_X6_isDone_0 : ev_prog.1 684032 = b_X6_isDone_0 := rfl
theorem bk_X6_isDone_55 : ev_prog.1 684087 = b_X6_isDone_55 := rfl
theorem bk_X6_isDone_59 : ev_prog.1 684091 = b_X6_isDone_59 := rfl
theorem bk_X6_isDone_60 : ev_prog.1 684092 = b_X6_isDone_60 := rfl
theorem ml_X6_isDone : ev_prog.2.1 167 = 2 := rfl
theorem bk_X6_doneIn_0 : ev_prog.1 688128 = b_X6_doneIn_0 := rfl
theorem bk_X6_doneIn_4 : ev_prog.1 688132 = b_X6_doneIn_4 := rfl
theorem bk_X6_doneIn_28 : ev_prog.1 688156 = b_X6_doneIn_28 := rfl
theorem bk_X6_doneIn_29 : ev_prog.1 688157 = b_X6_doneIn_29 := rfl
theorem bk_X6_doneIn_37 : ev_prog.1 688165 = b_X6_doneIn_37 := rfl
theorem ml_X6_doneIn : ev_prog.2.1 168 = 3 := rfl
theorem bk_X6_tells_0 : ev_prog.1 692224 = b_X6_tells_0 := rfl
theorem bk_X6_tells_40 : ev_prog.1 692264 = b_X6_tells_40 := rfl
theorem bk_X6_tells_50 : ev_prog.1 692274 = b_X6_tells_50 := rfl
theorem bk_X6_tells_57 : ev_prog.1 692281 = b_X6_tells_57 := rfl
theorem bk_X6_tells_64 : ev_prog.1 692288 = b_X6_tells_64 := rfl
theorem bk_X6_tells_71 : ev_prog.1 692295 = b_X6_tells_71 := rfl
theorem bk_X6_tells_78 : ev_prog.1 692302 = b_X6_tells_78 := rfl
theorem bk_X6_tells_85 : ev_prog.1 692309 = b_X6_tells_85 := rfl
theorem bk_X6_tells_89 : ev_prog.1 692313 = b_X6_tells_89 := rfl
theorem ml_X6_tells : ev_prog.2.1 169 = 2 := rfl
theorem bk_X0_info_0 : ev_prog.1 696320 = b_X0_info_0 := rfl
theorem bk_X0_info_38 : ev_prog.1 696358 = b_X0_info_38 := rfl
theorem bk_X0_info_40 : ev_prog.1 696360 = b_X0_info_40 := rfl
theorem ml_X0_info : ev_prog.2.1 170 = 3 := rfl
theorem bk_X3_formAs_0 : ev_prog.1 700416 = b_X3_formAs_0 := rfl
theorem bk_X3_formAs_9 : ev_prog.1 700425 = b_X3_formAs_9 := rfl
theorem bk_X3_formAs_15 : ev_prog.1 700431 = b_X3_formAs_15 := rfl
theorem ml_X3_formAs : ev_prog.2.1 171 = 4 := rfl
theorem bk_X3_isNumbers_0 : ev_prog.1 704512 = b_X3_isNumbers_0 := rfl
theorem ml_X3_isNumbers : ev_prog.2.1 172 = 1 := rfl
theorem bk_X3_familyAs_0 : ev_prog.1 708608 = b_X3_familyAs_0 := rfl
theorem bk_X3_familyAs_104 : ev_prog.1 708712 = b_X3_familyAs_104 := rfl
theorem bk_X3_familyAs_105 : ev_prog.1 708713 = b_X3_familyAs_105 := rfl
theorem bk_X3_familyAs_127 : ev_prog.1 708735 = b_X3_familyAs_127 := rfl
theorem bk_X3_familyAs_135 : ev_prog.1 708743 = b_X3_familyAs_135 := rfl
theorem bk_X3_familyAs_165 : ev_prog.1 708773 = b_X3_familyAs_165 := rfl
theorem bk_X3_familyAs_167 : ev_prog.1 708775 = b_X3_familyAs_167 := rfl
theorem bk_X3_familyAs_187 : ev_prog.1 708795 = b_X3_familyAs_187 := rfl
theorem bk_X3_familyAs_191 : ev_prog.1 708799 = b_X3_familyAs_191 := rfl
theorem bk_X3_familyAs_192 : ev_prog.1 708800 = b_X3_familyAs_192 := rfl
theorem bk_X3_familyAs_217 : ev_prog.1 708825 = b_X3_familyAs_217 := rfl
theorem bk_X3_familyAs_224 : ev_prog.1 708832 = b_X3_familyAs_224 := rfl
theorem bk_X3_familyAs_225 : ev_prog.1 708833 = b_X3_familyAs_225 := rfl
theorem bk_X3_familyAs_226 : ev_prog.1 708834 = b_X3_familyAs_226 := rfl
theorem bk_X3_familyAs_254 : ev_prog.1 708862 = b_X3_familyAs_254 := rfl
theorem bk_X3_familyAs_256 : ev_prog.1 708864 = b_X3_familyAs_256 := rfl
theorem bk_X3_familyAs_308 : ev_prog.1 708916 = b_X3_familyAs_308 := rfl
theorem bk_X3_familyAs_310 : ev_prog.1 708918 = b_X3_familyAs_310 := rfl
theorem bk_X3_familyAs_312 : ev_prog.1 708920 = b_X3_familyAs_312 := rfl
theorem bk_X3_familyAs_317 : ev_prog.1 708925 = b_X3_familyAs_317 := rfl
theorem bk_X3_familyAs_322 : ev_prog.1 708930 = b_X3_familyAs_322 := rfl
theorem ml_X3_familyAs : ev_prog.2.1 173 = 11 := rfl
theorem bk_X3_isDone_0 : ev_prog.1 712704 = b_X3_isDone_0 := rfl
theorem bk_X3_isDone_48 : ev_prog.1 712752 = b_X3_isDone_48 := rfl
theorem bk_X3_isDone_52 : ev_prog.1 712756 = b_X3_isDone_52 := rfl
theorem bk_X3_isDone_53 : ev_prog.1 712757 = b_X3_isDone_53 := rfl
theorem bk_X3_isDone_81 : ev_prog.1 712785 = b_X3_isDone_81 := rfl
theorem bk_X3_isDone_82 : ev_prog.1 712786 = b_X3_isDone_82 := rfl
theorem ml_X3_isDone : ev_prog.2.1 174 = 5 := rfl
theorem bk_X3_doneMany_0 : ev_prog.1 716800 = b_X3_doneMany_0 := rfl
theorem bk_X3_doneMany_4 : ev_prog.1 716804 = b_X3_doneMany_4 := rfl
theorem bk_X3_doneMany_26 : ev_prog.1 716826 = b_X3_doneMany_26 := rfl
theorem bk_X3_doneMany_27 : ev_prog.1 716827 = b_X3_doneMany_27 := rfl
theorem bk_X3_doneMany_35 : ev_prog.1 716835 = b_X3_doneMany_35 := rfl
theorem ml_X3_doneMany : ev_prog.2.1 175 = 4 := rfl
theorem bk_X3_infoOf_0 : ev_prog.1 720896 = b_X3_infoOf_0 := rfl
theorem bk_X3_infoOf_40 : ev_prog.1 720936 = b_X3_infoOf_40 := rfl
theorem bk_X3_infoOf_47 : ev_prog.1 720943 = b_X3_infoOf_47 := rfl
theorem bk_X3_infoOf_54 : ev_prog.1 720950 = b_X3_infoOf_54 := rfl
theorem bk_X3_infoOf_61 : ev_prog.1 720957 = b_X3_infoOf_61 := rfl
theorem bk_X3_infoOf_68 : ev_prog.1 720964 = b_X3_infoOf_68 := rfl
theorem bk_X3_infoOf_75 : ev_prog.1 720971 = b_X3_infoOf_75 := rfl
theorem bk_X3_infoOf_83 : ev_prog.1 720979 = b_X3_infoOf_83 := rfl
theorem ml_X3_infoOf : ev_prog.2.1 176 = 3 := rfl
theorem bk_X3_info_0 : ev_prog.1 724992 = b_X3_info_0 := rfl
theorem bk_X3_info_27 : ev_prog.1 725019 = b_X3_info_27 := rfl
theorem bk_X3_info_29 : ev_prog.1 725021 = b_X3_info_29 := rfl
theorem ml_X3_info : ev_prog.2.1 177 = 3 := rfl
theorem bk_X7_tells_0 : ev_prog.1 729088 = b_X7_tells_0 := rfl
theorem bk_X7_tells_28 : ev_prog.1 729116 = b_X7_tells_28 := rfl
theorem bk_X7_tells_35 : ev_prog.1 729123 = b_X7_tells_35 := rfl
theorem bk_X7_tells_42 : ev_prog.1 729130 = b_X7_tells_42 := rfl
theorem bk_X7_tells_49 : ev_prog.1 729137 = b_X7_tells_49 := rfl
theorem bk_X7_tells_53 : ev_prog.1 729141 = b_X7_tells_53 := rfl
theorem ml_X7_tells : ev_prog.2.1 178 = 2 := rfl
theorem bk_X0_reference_0 : ev_prog.1 733184 = b_X0_reference_0 := rfl
theorem bk_X0_reference_43 : ev_prog.1 733227 = b_X0_reference_43 := rfl
theorem bk_X0_reference_46 : ev_prog.1 733230 = b_X0_reference_46 := rfl
theorem ml_X0_reference : ev_prog.2.1 179 = 4 := rfl
theorem bk_X3_referenceOf_0 : ev_prog.1 737280 = b_X3_referenceOf_0 := rfl
theorem bk_X3_referenceOf_13 : ev_prog.1 737293 = b_X3_referenceOf_13 := rfl
theorem bk_X3_referenceOf_27 : ev_prog.1 737307 = b_X3_referenceOf_27 := rfl
theorem bk_X3_referenceOf_41 : ev_prog.1 737321 = b_X3_referenceOf_41 := rfl
theorem bk_X3_referenceOf_47 : ev_prog.1 737327 = b_X3_referenceOf_47 := rfl
theorem ml_X3_referenceOf : ev_prog.2.1 180 = 3 := rfl
theorem bk_X3_reference_0 : ev_prog.1 741376 = b_X3_reference_0 := rfl
theorem bk_X3_reference_39 : ev_prog.1 741415 = b_X3_reference_39 := rfl
theorem bk_X3_reference_41 : ev_prog.1 741417 = b_X3_reference_41 := rfl
theorem ml_X3_reference : ev_prog.2.1 181 = 4 := rfl
theorem bk_X0_referenceAt_0 : ev_prog.1 745472 = b_X0_referenceAt_0 := rfl
theorem ml_X0_referenceAt : ev_prog.2.1 182 = 2 := rfl
theorem bk_X0_isTo_0 : ev_prog.1 749568 = b_X0_isTo_0 := rfl
theorem bk_X0_isTo_37 : ev_prog.1 749605 = b_X0_isTo_37 := rfl
theorem bk_X0_isTo_38 : ev_prog.1 749606 = b_X0_isTo_38 := rfl
theorem ml_X0_isTo : ev_prog.2.1 183 = 2 := rfl
theorem bk_X0_isTurn_0 : ev_prog.1 753664 = b_X0_isTurn_0 := rfl
theorem ml_X0_isTurn : ev_prog.2.1 184 = 2 := rfl
theorem bk_X7_lambda_new_0_0 : ev_prog.1 757760 = b_X7_lambda_new_0_0 := rfl
theorem ml_X7_lambda_new_0 : ev_prog.2.1 185 = 2 := rfl
theorem bk_X7_lambda_moves_1_0 : ev_prog.1 761856 = b_X7_lambda_moves_1_0 := rfl
theorem ml_X7_lambda_moves_1 : ev_prog.2.1 186 = 5 := rfl
theorem bk_J8_abs_0 : ev_prog.1 765952 = b_J8_abs_0 := rfl
theorem bk_J8_abs_9 : ev_prog.1 765961 = b_J8_abs_9 := rfl
theorem bk_J8_abs_10 : ev_prog.1 765962 = b_J8_abs_10 := rfl
theorem ml_J8_abs : ev_prog.2.1 187 = 1 := rfl
theorem bk_X8_init_0 : ev_prog.1 770048 = b_X8_init_0 := rfl
theorem bk_X8_init_13 : ev_prog.1 770061 = b_X8_init_13 := rfl
theorem bk_X8_init_14 : ev_prog.1 770062 = b_X8_init_14 := rfl
theorem bk_X8_init_27 : ev_prog.1 770075 = b_X8_init_27 := rfl
theorem bk_X8_init_28 : ev_prog.1 770076 = b_X8_init_28 := rfl
theorem ml_X8_init : ev_prog.2.1 188 = 4 := rfl
theorem bk_X8_of_0 : ev_prog.1 774144 = b_X8_of_0 := rfl
theorem bk_X8_of_55 : ev_prog.1 774199 = b_X8_of_55 := rfl
theorem bk_X8_of_56 : ev_prog.1 774200 = b_X8_of_56 := rfl
theorem ml_X8_of : ev_prog.2.1 189 = 5 := rfl
theorem bk_X0_sectionAt_0 : ev_prog.1 778240 = b_X0_sectionAt_0 := rfl
theorem ml_X0_sectionAt : ev_prog.2.1 190 = 3 := rfl
theorem bk_X8_tells_0 : ev_prog.1 782336 = b_X8_tells_0 := rfl
theorem bk_X8_tells_28 : ev_prog.1 782364 = b_X8_tells_28 := rfl
theorem bk_X8_tells_35 : ev_prog.1 782371 = b_X8_tells_35 := rfl
theorem bk_X8_tells_42 : ev_prog.1 782378 = b_X8_tells_42 := rfl
theorem bk_X8_tells_46 : ev_prog.1 782382 = b_X8_tells_46 := rfl
theorem ml_X8_tells : ev_prog.2.1 191 = 2 := rfl
theorem bk_X0_section_0 : ev_prog.1 786432 = b_X0_section_0 := rfl
theorem bk_X0_section_41 : ev_prog.1 786473 = b_X0_section_41 := rfl
theorem bk_X0_section_44 : ev_prog.1 786476 = b_X0_section_44 := rfl
theorem ml_X0_section : ev_prog.2.1 192 = 4 := rfl
theorem bk_X3_isSection_0 : ev_prog.1 790528 = b_X3_isSection_0 := rfl
theorem bk_X3_isSection_44 : ev_prog.1 790572 = b_X3_isSection_44 := rfl
theorem bk_X3_isSection_45 : ev_prog.1 790573 = b_X3_isSection_45 := rfl
theorem ml_X3_isSection : ev_prog.2.1 193 = 3 := rfl
theorem bk_X3_placeOf_0 : ev_prog.1 794624 = b_X3_placeOf_0 := rfl
theorem ml_X3_placeOf : ev_prog.2.1 194 = 4 := rfl
theorem bk_X3_firstOf_0 : ev_prog.1 798720 = b_X3_firstOf_0 := rfl
theorem bk_X3_firstOf_37 : ev_prog.1 798757 = b_X3_firstOf_37 := rfl
theorem bk_X3_firstOf_38 : ev_prog.1 798758 = b_X3_firstOf_38 := rfl
theorem ml_X3_firstOf : ev_prog.2.1 195 = 5 := rfl
theorem bk_X3_manyOf_0 : ev_prog.1 802816 = b_X3_manyOf_0 := rfl
theorem bk_X3_manyOf_13 : ev_prog.1 802829 = b_X3_manyOf_13 := rfl
theorem bk_X3_manyOf_21 : ev_prog.1 802837 = b_X3_manyOf_21 := rfl
theorem ml_X3_manyOf : ev_prog.2.1 196 = 2 := rfl
theorem bk_X3_strideOf_0 : ev_prog.1 806912 = b_X3_strideOf_0 := rfl
theorem bk_X3_strideOf_13 : ev_prog.1 806925 = b_X3_strideOf_13 := rfl
theorem bk_X3_strideOf_32 : ev_prog.1 806944 = b_X3_strideOf_32 := rfl
theorem bk_X3_strideOf_38 : ev_prog.1 806950 = b_X3_strideOf_38 := rfl
theorem ml_X3_strideOf : ev_prog.2.1 197 = 2 := rfl
theorem bk_X3_sectionOf_0 : ev_prog.1 811008 = b_X3_sectionOf_0 := rfl
theorem bk_X3_sectionOf_13 : ev_prog.1 811021 = b_X3_sectionOf_13 := rfl
theorem bk_X3_sectionOf_26 : ev_prog.1 811034 = b_X3_sectionOf_26 := rfl
theorem bk_X3_sectionOf_31 : ev_prog.1 811039 = b_X3_sectionOf_31 := rfl
theorem ml_X3_sectionOf : ev_prog.2.1 198 = 4 := rfl
theorem bk_X3_section_0 : ev_prog.1 815104 = b_X3_section_0 := rfl
theorem bk_X3_section_28 : ev_prog.1 815132 = b_X3_section_28 := rfl
theorem bk_X3_section_30 : ev_prog.1 815134 = b_X3_section_30 := rfl
theorem ml_X3_section : ev_prog.2.1 199 = 4 := rfl
theorem bk_X0_divisor_0 : ev_prog.1 819200 = b_X0_divisor_0 := rfl
theorem bk_X0_divisor_4 : ev_prog.1 819204 = b_X0_divisor_4 := rfl
theorem bk_X0_divisor_21 : ev_prog.1 819221 = b_X0_divisor_21 := rfl
theorem ml_X0_divisor : ev_prog.2.1 200 = 5 := rfl
theorem bk_J8_floorMod_0 : ev_prog.1 823296 = b_J8_floorMod_0 := rfl
theorem bk_J8_floorMod_18 : ev_prog.1 823314 = b_J8_floorMod_18 := rfl
theorem ml_J8_floorMod : ev_prog.2.1 201 = 3 := rfl
theorem bk_X8_last_0 : ev_prog.1 827392 = b_X8_last_0 := rfl
theorem ml_X8_last : ev_prog.2.1 202 = 1 := rfl
theorem bk_X8_meet_0 : ev_prog.1 831488 = b_X8_meet_0 := rfl
theorem bk_X8_meet_40 : ev_prog.1 831528 = b_X8_meet_40 := rfl
theorem bk_X8_meet_51 : ev_prog.1 831539 = b_X8_meet_51 := rfl
theorem bk_X8_meet_61 : ev_prog.1 831549 = b_X8_meet_61 := rfl
theorem bk_X8_meet_100 : ev_prog.1 831588 = b_X8_meet_100 := rfl
theorem bk_X8_meet_163 : ev_prog.1 831651 = b_X8_meet_163 := rfl
theorem bk_X8_meet_195 : ev_prog.1 831683 = b_X8_meet_195 := rfl
theorem bk_X8_meet_205 : ev_prog.1 831693 = b_X8_meet_205 := rfl
theorem ml_X8_meet : ev_prog.2.1 203 = 9 := rfl
theorem bk_X0_meet_0 : ev_prog.1 835584 = b_X0_meet_0 := rfl
theorem bk_X0_meet_46 : ev_prog.1 835630 = b_X0_meet_46 := rfl
theorem bk_X0_meet_50 : ev_prog.1 835634 = b_X0_meet_50 := rfl
theorem bk_X0_meet_92 : ev_prog.1 835676 = b_X0_meet_92 := rfl
theorem bk_X0_meet_99 : ev_prog.1 835683 = b_X0_meet_99 := rfl
theorem ml_X0_meet : ev_prog.2.1 204 = 8 := rfl
theorem bk_X3_hasPlace_0 : ev_prog.1 839680 = b_X3_hasPlace_0 := rfl
theorem bk_X3_hasPlace_6 : ev_prog.1 839686 = b_X3_hasPlace_6 := rfl
theorem bk_X3_hasPlace_36 : ev_prog.1 839716 = b_X3_hasPlace_36 := rfl
theorem bk_X3_hasPlace_40 : ev_prog.1 839720 = b_X3_hasPlace_40 := rfl
theorem bk_X3_hasPlace_41 : ev_prog.1 839721 = b_X3_hasPlace_41 := rfl
theorem bk_X3_hasPlace_49 : ev_prog.1 839729 = b_X3_hasPlace_49 := rfl
theorem ml_X3_hasPlace : ev_prog.2.1 205 = 6 := rfl
theorem bk_X3_meetOf_0 : ev_prog.1 843776 = b_X3_meetOf_0 := rfl
theorem bk_X3_meetOf_12 : ev_prog.1 843788 = b_X3_meetOf_12 := rfl
theorem bk_X3_meetOf_65 : ev_prog.1 843841 = b_X3_meetOf_65 := rfl
theorem bk_X3_meetOf_67 : ev_prog.1 843843 = b_X3_meetOf_67 := rfl
theorem bk_X3_meetOf_79 : ev_prog.1 843855 = b_X3_meetOf_79 := rfl
theorem bk_X3_meetOf_81 : ev_prog.1 843857 = b_X3_meetOf_81 := rfl
theorem bk_X3_meetOf_86 : ev_prog.1 843862 = b_X3_meetOf_86 := rfl
theorem bk_X3_meetOf_92 : ev_prog.1 843868 = b_X3_meetOf_92 := rfl
theorem bk_X3_meetOf_102 : ev_prog.1 843878 = b_X3_meetOf_102 := rfl
theorem bk_X3_meetOf_113 : ev_prog.1 843889 = b_X3_meetOf_113 := rfl
theorem bk_X3_meetOf_124 : ev_prog.1 843900 = b_X3_meetOf_124 := rfl
theorem bk_X3_meetOf_132 : ev_prog.1 843908 = b_X3_meetOf_132 := rfl
theorem ml_X3_meetOf : ev_prog.2.1 206 = 11 := rfl
theorem bk_X3_meet_0 : ev_prog.1 847872 = b_X3_meet_0 := rfl
theorem bk_X3_meet_43 : ev_prog.1 847915 = b_X3_meet_43 := rfl
theorem bk_X3_meet_45 : ev_prog.1 847917 = b_X3_meet_45 := rfl
theorem ml_X3_meet : ev_prog.2.1 207 = 6 := rfl
theorem bk_J34_init_0 : ev_prog.1 851968 = b_J34_init_0 := rfl
theorem ml_J34_init : ev_prog.2.1 208 = 1 := rfl
theorem bk_X6_looks_0 : ev_prog.1 856064 = b_X6_looks_0 := rfl
theorem bk_X6_looks_17 : ev_prog.1 856081 = b_X6_looks_17 := rfl
theorem bk_X6_looks_21 : ev_prog.1 856085 = b_X6_looks_21 := rfl
theorem bk_X6_looks_22 : ev_prog.1 856086 = b_X6_looks_22 := rfl
theorem ml_X6_looks : ev_prog.2.1 209 = 2 := rfl
theorem bk_X9_init_0 : ev_prog.1 860160 = b_X9_init_0 := rfl
theorem ml_X9_init : ev_prog.2.1 210 = 2 := rfl
theorem bk_X0_kindsOf_0 : ev_prog.1 864256 = b_X0_kindsOf_0 := rfl
theorem bk_X0_kindsOf_24 : ev_prog.1 864280 = b_X0_kindsOf_24 := rfl
theorem bk_X0_kindsOf_46 : ev_prog.1 864302 = b_X0_kindsOf_46 := rfl
theorem bk_X0_kindsOf_59 : ev_prog.1 864315 = b_X0_kindsOf_59 := rfl
theorem bk_X0_kindsOf_100 : ev_prog.1 864356 = b_X0_kindsOf_100 := rfl
theorem bk_X0_kindsOf_150 : ev_prog.1 864406 = b_X0_kindsOf_150 := rfl
theorem bk_X0_kindsOf_161 : ev_prog.1 864417 = b_X0_kindsOf_161 := rfl
theorem bk_X0_kindsOf_167 : ev_prog.1 864423 = b_X0_kindsOf_167 := rfl
theorem bk_X0_kindsOf_173 : ev_prog.1 864429 = b_X0_kindsOf_173 := rfl
theorem ml_X0_kindsOf : ev_prog.2.1 211 = 12 := rfl
theorem bk_J1_size_0 : ev_prog.1 868352 = b_J1_size_0 := rfl
theorem ml_J1_size : ev_prog.2.1 212 = 1 := rfl
theorem bk_X0_kinds_0 : ev_prog.1 872448 = b_X0_kinds_0 := rfl
theorem bk_X0_kinds_27 : ev_prog.1 872475 = b_X0_kinds_27 := rfl
theorem bk_X0_kinds_29 : ev_prog.1 872477 = b_X0_kinds_29 := rfl
theorem ml_X0_kinds : ev_prog.2.1 213 = 3 := rfl
theorem bk_X3_isLooked_0 : ev_prog.1 876544 = b_X3_isLooked_0 := rfl
theorem bk_X3_isLooked_30 : ev_prog.1 876574 = b_X3_isLooked_30 := rfl
theorem bk_X3_isLooked_34 : ev_prog.1 876578 = b_X3_isLooked_34 := rfl
theorem bk_X3_isLooked_35 : ev_prog.1 876579 = b_X3_isLooked_35 := rfl
theorem ml_X3_isLooked : ev_prog.2.1 214 = 2 := rfl
theorem bk_X3_addsKind_0 : ev_prog.1 880640 = b_X3_addsKind_0 := rfl
theorem bk_X3_addsKind_5 : ev_prog.1 880645 = b_X3_addsKind_5 := rfl
theorem bk_X3_addsKind_74 : ev_prog.1 880714 = b_X3_addsKind_74 := rfl
theorem bk_X3_addsKind_75 : ev_prog.1 880715 = b_X3_addsKind_75 := rfl
theorem bk_X3_addsKind_87 : ev_prog.1 880727 = b_X3_addsKind_87 := rfl
theorem bk_X3_addsKind_88 : ev_prog.1 880728 = b_X3_addsKind_88 := rfl
theorem bk_X3_addsKind_95 : ev_prog.1 880735 = b_X3_addsKind_95 := rfl
theorem bk_X3_addsKind_170 : ev_prog.1 880810 = b_X3_addsKind_170 := rfl
theorem ml_X3_addsKind : ev_prog.2.1 215 = 6 := rfl
theorem bk_X3_addsIf_0 : ev_prog.1 884736 = b_X3_addsIf_0 := rfl
theorem bk_X3_addsIf_24 : ev_prog.1 884760 = b_X3_addsIf_24 := rfl
theorem ml_X3_addsIf : ev_prog.2.1 216 = 4 := rfl
theorem bk_X3_findsKinds_0 : ev_prog.1 888832 = b_X3_findsKinds_0 := rfl
theorem bk_X3_findsKinds_7 : ev_prog.1 888839 = b_X3_findsKinds_7 := rfl
theorem bk_X3_findsKinds_55 : ev_prog.1 888887 = b_X3_findsKinds_55 := rfl
theorem bk_X3_findsKinds_61 : ev_prog.1 888893 = b_X3_findsKinds_61 := rfl
theorem ml_X3_findsKinds : ev_prog.2.1 217 = 4 := rfl
theorem bk_X3_kinds_0 : ev_prog.1 892928 = b_X3_kinds_0 := rfl
theorem bk_X3_kinds_24 : ev_prog.1 892952 = b_X3_kinds_24 := rfl
theorem bk_X3_kinds_26 : ev_prog.1 892954 = b_X3_kinds_26 := rfl
theorem ml_X3_kinds : ev_prog.2.1 218 = 3 := rfl
theorem bk_J35_init_0 : ev_prog.1 897024 = b_J35_init_0 := rfl
theorem ml_J35_init : ev_prog.2.1 219 = 3 := rfl
theorem bk_J34_sequencedValues_0 : ev_prog.1 901120 = b_J34_sequencedValues_0 := rfl
theorem bk_J34_sequencedValues_26 : ev_prog.1 901146 = b_J34_sequencedValues_26 := rfl
theorem ml_J34_sequencedValues : ev_prog.2.1 220 = 3 := rfl
theorem bk_J34_values_0 : ev_prog.1 905216 = b_J34_values_0 := rfl
theorem ml_J34_values : ev_prog.2.1 221 = 1 := rfl
theorem bk_J38_init_0 : ev_prog.1 909312 = b_J38_init_0 := rfl
theorem bk_J38_init_26 : ev_prog.1 909338 = b_J38_init_26 := rfl
theorem bk_J38_init_30 : ev_prog.1 909342 = b_J38_init_30 := rfl
theorem ml_J38_init : ev_prog.2.1 222 = 3 := rfl
theorem bk_J39_init_0 : ev_prog.1 913408 = b_J39_init_0 := rfl
theorem ml_J39_init : ev_prog.2.1 223 = 3 := rfl
theorem bk_J35_iterator_0 : ev_prog.1 917504 = b_J35_iterator_0 := rfl
theorem ml_J35_iterator : ev_prog.2.1 224 = 1 := rfl
theorem bk_J38_hasNext_0 : ev_prog.1 921600 = b_J38_hasNext_0 := rfl
theorem bk_J38_hasNext_11 : ev_prog.1 921611 = b_J38_hasNext_11 := rfl
theorem bk_J38_hasNext_12 : ev_prog.1 921612 = b_J38_hasNext_12 := rfl
theorem ml_J38_hasNext : ev_prog.2.1 225 = 1 := rfl
theorem bk_J38_nextNode_0 : ev_prog.1 925696 = b_J38_nextNode_0 := rfl
theorem bk_J38_nextNode_27 : ev_prog.1 925723 = b_J38_nextNode_27 := rfl
theorem bk_J38_nextNode_39 : ev_prog.1 925735 = b_J38_nextNode_39 := rfl
theorem bk_J38_nextNode_59 : ev_prog.1 925755 = b_J38_nextNode_59 := rfl
theorem bk_J38_nextNode_63 : ev_prog.1 925759 = b_J38_nextNode_63 := rfl
theorem ml_J38_nextNode : ev_prog.2.1 226 = 2 := rfl
theorem bk_J39_next_0 : ev_prog.1 929792 = b_J39_next_0 := rfl
theorem ml_J39_next : ev_prog.2.1 227 = 1 := rfl
theorem bk_X0_nth_0 : ev_prog.1 933888 = b_X0_nth_0 := rfl
theorem bk_X0_nth_12 : ev_prog.1 933900 = b_X0_nth_12 := rfl
theorem bk_X0_nth_40 : ev_prog.1 933928 = b_X0_nth_40 := rfl
theorem bk_X0_nth_46 : ev_prog.1 933934 = b_X0_nth_46 := rfl
theorem ml_X0_nth : ev_prog.2.1 228 = 5 := rfl
theorem bk_X0_kind_0 : ev_prog.1 937984 = b_X0_kind_0 := rfl
theorem bk_X0_kind_32 : ev_prog.1 938016 = b_X0_kind_32 := rfl
theorem bk_X0_kind_36 : ev_prog.1 938020 = b_X0_kind_36 := rfl
theorem bk_X0_kind_57 : ev_prog.1 938041 = b_X0_kind_57 := rfl
theorem bk_X0_kind_71 : ev_prog.1 938055 = b_X0_kind_71 := rfl
theorem bk_X0_kind_81 : ev_prog.1 938065 = b_X0_kind_81 := rfl
theorem ml_X0_kind : ev_prog.2.1 229 = 6 := rfl
theorem bk_X3_kind_0 : ev_prog.1 942080 = b_X3_kind_0 := rfl
theorem bk_X3_kind_25 : ev_prog.1 942105 = b_X3_kind_25 := rfl
theorem bk_X3_kind_28 : ev_prog.1 942108 = b_X3_kind_28 := rfl
theorem bk_X3_kind_58 : ev_prog.1 942138 = b_X3_kind_58 := rfl
theorem bk_X3_kind_60 : ev_prog.1 942140 = b_X3_kind_60 := rfl
theorem ml_X3_kind : ev_prog.2.1 230 = 5 := rfl
theorem bk_X0_isSet_0 : ev_prog.1 946176 = b_X0_isSet_0 := rfl
theorem bk_X0_isSet_32 : ev_prog.1 946208 = b_X0_isSet_32 := rfl
theorem bk_X0_isSet_36 : ev_prog.1 946212 = b_X0_isSet_36 := rfl
theorem bk_X0_isSet_37 : ev_prog.1 946213 = b_X0_isSet_37 := rfl
theorem ml_X0_isSet : ev_prog.2.1 231 = 4 := rfl
theorem bk_X0_fits_0 : ev_prog.1 950272 = b_X0_fits_0 := rfl
theorem bk_X0_fits_10 : ev_prog.1 950282 = b_X0_fits_10 := rfl
theorem bk_X0_fits_48 : ev_prog.1 950320 = b_X0_fits_48 := rfl
theorem bk_X0_fits_50 : ev_prog.1 950322 = b_X0_fits_50 := rfl
theorem bk_X0_fits_61 : ev_prog.1 950333 = b_X0_fits_61 := rfl
theorem bk_X0_fits_88 : ev_prog.1 950360 = b_X0_fits_88 := rfl
theorem bk_X0_fits_98 : ev_prog.1 950370 = b_X0_fits_98 := rfl
theorem ml_X0_fits : ev_prog.2.1 232 = 7 := rfl
theorem bk_X0_setAt_0 : ev_prog.1 954368 = b_X0_setAt_0 := rfl
theorem ml_X0_setAt : ev_prog.2.1 233 = 3 := rfl
theorem bk_X0_cellsOf_0 : ev_prog.1 958464 = b_X0_cellsOf_0 := rfl
theorem bk_X0_cellsOf_6 : ev_prog.1 958470 = b_X0_cellsOf_6 := rfl
theorem bk_X0_cellsOf_37 : ev_prog.1 958501 = b_X0_cellsOf_37 := rfl
theorem ml_X0_cellsOf : ev_prog.2.1 234 = 7 := rfl
theorem bk_X1_isFirm_0 : ev_prog.1 962560 = b_X1_isFirm_0 := rfl
theorem bk_X1_isFirm_13 : ev_prog.1 962573 = b_X1_isFirm_13 := rfl
theorem bk_X1_isFirm_14 : ev_prog.1 962574 = b_X1_isFirm_14 := rfl
theorem ml_X1_isFirm : ev_prog.2.1 235 = 1 := rfl
theorem bk_X0_isOwn_0 : ev_prog.1 966656 = b_X0_isOwn_0 := rfl
theorem bk_X0_isOwn_44 : ev_prog.1 966700 = b_X0_isOwn_44 := rfl
theorem bk_X0_isOwn_45 : ev_prog.1 966701 = b_X0_isOwn_45 := rfl
theorem bk_X0_isOwn_46 : ev_prog.1 966702 = b_X0_isOwn_46 := rfl
theorem bk_X0_isOwn_81 : ev_prog.1 966737 = b_X0_isOwn_81 := rfl
theorem bk_X0_isOwn_82 : ev_prog.1 966738 = b_X0_isOwn_82 := rfl
theorem ml_X0_isOwn : ev_prog.2.1 236 = 6 := rfl
theorem bk_X0_reads_0 : ev_prog.1 970752 = b_X0_reads_0 := rfl
theorem bk_X0_reads_21 : ev_prog.1 970773 = b_X0_reads_21 := rfl
theorem bk_X0_reads_22 : ev_prog.1 970774 = b_X0_reads_22 := rfl
theorem bk_X0_reads_79 : ev_prog.1 970831 = b_X0_reads_79 := rfl
theorem bk_X0_reads_80 : ev_prog.1 970832 = b_X0_reads_80 := rfl
theorem bk_X0_reads_85 : ev_prog.1 970837 = b_X0_reads_85 := rfl
theorem bk_X0_reads_144 : ev_prog.1 970896 = b_X0_reads_144 := rfl
theorem bk_X0_reads_148 : ev_prog.1 970900 = b_X0_reads_148 := rfl
theorem bk_X0_reads_149 : ev_prog.1 970901 = b_X0_reads_149 := rfl
theorem bk_X0_reads_178 : ev_prog.1 970930 = b_X0_reads_178 := rfl
theorem bk_X0_reads_184 : ev_prog.1 970936 = b_X0_reads_184 := rfl
theorem ml_X0_reads : ev_prog.2.1 237 = 10 := rfl
theorem bk_X1_isDoubtful_0 : ev_prog.1 974848 = b_X1_isDoubtful_0 := rfl
theorem bk_X1_isDoubtful_13 : ev_prog.1 974861 = b_X1_isDoubtful_13 := rfl
theorem bk_X1_isDoubtful_14 : ev_prog.1 974862 = b_X1_isDoubtful_14 := rfl
theorem ml_X1_isDoubtful : ev_prog.2.1 238 = 1 := rfl
theorem bk_X0_goes_0 : ev_prog.1 978944 = b_X0_goes_0 := rfl
theorem bk_X0_goes_2 : ev_prog.1 978946 = b_X0_goes_2 := rfl
theorem bk_X0_goes_21 : ev_prog.1 978965 = b_X0_goes_21 := rfl
theorem bk_X0_goes_25 : ev_prog.1 978969 = b_X0_goes_25 := rfl
theorem bk_X0_goes_61 : ev_prog.1 979005 = b_X0_goes_61 := rfl
theorem bk_X0_goes_107 : ev_prog.1 979051 = b_X0_goes_107 := rfl
theorem bk_X0_goes_112 : ev_prog.1 979056 = b_X0_goes_112 := rfl
theorem bk_X0_goes_156 : ev_prog.1 979100 = b_X0_goes_156 := rfl
theorem bk_X0_goes_157 : ev_prog.1 979101 = b_X0_goes_157 := rfl
theorem bk_X0_goes_208 : ev_prog.1 979152 = b_X0_goes_208 := rfl
theorem bk_X0_goes_210 : ev_prog.1 979154 = b_X0_goes_210 := rfl
theorem bk_X0_goes_216 : ev_prog.1 979160 = b_X0_goes_216 := rfl
theorem bk_X0_goes_263 : ev_prog.1 979207 = b_X0_goes_263 := rfl
theorem bk_X0_goes_264 : ev_prog.1 979208 = b_X0_goes_264 := rfl
theorem bk_X0_goes_307 : ev_prog.1 979251 = b_X0_goes_307 := rfl
theorem bk_X0_goes_308 : ev_prog.1 979252 = b_X0_goes_308 := rfl
theorem bk_X0_goes_343 : ev_prog.1 979287 = b_X0_goes_343 := rfl
theorem bk_X0_goes_344 : ev_prog.1 979288 = b_X0_goes_344 := rfl
theorem bk_X0_goes_346 : ev_prog.1 979290 = b_X0_goes_346 := rfl
theorem bk_X0_goes_352 : ev_prog.1 979296 = b_X0_goes_352 := rfl
theorem bk_X0_goes_358 : ev_prog.1 979302 = b_X0_goes_358 := rfl
theorem ml_X0_goes : ev_prog.2.1 239 = 12 := rfl
theorem bk_X0_knows_0 : ev_prog.1 983040 = b_X0_knows_0 := rfl
theorem bk_X0_knows_2 : ev_prog.1 983042 = b_X0_knows_2 := rfl
theorem bk_X0_knows_24 : ev_prog.1 983064 = b_X0_knows_24 := rfl
theorem bk_X0_knows_26 : ev_prog.1 983066 = b_X0_knows_26 := rfl
theorem bk_X0_knows_45 : ev_prog.1 983085 = b_X0_knows_45 := rfl
theorem ml_X0_knows : ev_prog.2.1 240 = 2 := rfl
theorem bk_X0_bitsOf_0 : ev_prog.1 987136 = b_X0_bitsOf_0 := rfl
theorem bk_X0_bitsOf_17 : ev_prog.1 987153 = b_X0_bitsOf_17 := rfl
theorem bk_X0_bitsOf_23 : ev_prog.1 987159 = b_X0_bitsOf_23 := rfl
theorem bk_X0_bitsOf_55 : ev_prog.1 987191 = b_X0_bitsOf_55 := rfl
theorem ml_X0_bitsOf : ev_prog.2.1 241 = 7 := rfl
theorem bk_J10_bitCount_0 : ev_prog.1 991232 = b_J10_bitCount_0 := rfl
theorem ml_J10_bitCount : ev_prog.2.1 242 = 2 := rfl
theorem bk_X0_many_0 : ev_prog.1 995328 = b_X0_many_0 := rfl
theorem bk_X0_many_13 : ev_prog.1 995341 = b_X0_many_13 := rfl
theorem ml_X0_many : ev_prog.2.1 243 = 4 := rfl
theorem bk_X3_isSet_0 : ev_prog.1 999424 = b_X3_isSet_0 := rfl
theorem bk_X3_isSet_34 : ev_prog.1 999458 = b_X3_isSet_34 := rfl
theorem bk_X3_isSet_35 : ev_prog.1 999459 = b_X3_isSet_35 := rfl
theorem ml_X3_isSet : ev_prog.2.1 244 = 4 := rfl
theorem bk_X3_bitAt_0 : ev_prog.1 1003520 = b_X3_bitAt_0 := rfl
theorem bk_X3_bitAt_55 : ev_prog.1 1003575 = b_X3_bitAt_55 := rfl
theorem bk_X3_bitAt_56 : ev_prog.1 1003576 = b_X3_bitAt_56 := rfl
theorem ml_X3_bitAt : ev_prog.2.1 245 = 6 := rfl
theorem bk_X3_reads_0 : ev_prog.1 1007616 = b_X3_reads_0 := rfl
theorem bk_X3_reads_10 : ev_prog.1 1007626 = b_X3_reads_10 := rfl
theorem bk_X3_reads_83 : ev_prog.1 1007699 = b_X3_reads_83 := rfl
theorem bk_X3_reads_84 : ev_prog.1 1007700 = b_X3_reads_84 := rfl
theorem ml_X3_reads : ev_prog.2.1 246 = 6 := rfl
theorem bk_X3_knows_0 : ev_prog.1 1011712 = b_X3_knows_0 := rfl
theorem bk_X3_knows_28 : ev_prog.1 1011740 = b_X3_knows_28 := rfl
theorem bk_X3_knows_30 : ev_prog.1 1011742 = b_X3_knows_30 := rfl
theorem bk_X3_knows_79 : ev_prog.1 1011791 = b_X3_knows_79 := rfl
theorem bk_X3_knows_83 : ev_prog.1 1011795 = b_X3_knows_83 := rfl
theorem bk_X3_knows_84 : ev_prog.1 1011796 = b_X3_knows_84 := rfl
theorem bk_X3_knows_137 : ev_prog.1 1011849 = b_X3_knows_137 := rfl
theorem bk_X3_knows_141 : ev_prog.1 1011853 = b_X3_knows_141 := rfl
theorem bk_X3_knows_143 : ev_prog.1 1011855 = b_X3_knows_143 := rfl
theorem bk_X3_knows_164 : ev_prog.1 1011876 = b_X3_knows_164 := rfl
theorem bk_X3_knows_166 : ev_prog.1 1011878 = b_X3_knows_166 := rfl
theorem bk_X3_knows_177 : ev_prog.1 1011889 = b_X3_knows_177 := rfl
theorem bk_X3_knows_178 : ev_prog.1 1011890 = b_X3_knows_178 := rfl
theorem ml_X3_knows : ev_prog.2.1 247 = 7 := rfl
theorem bk_X3_findsTurn_0 : ev_prog.1 1015808 = b_X3_findsTurn_0 := rfl
theorem bk_X3_findsTurn_7 : ev_prog.1 1015815 = b_X3_findsTurn_7 := rfl
theorem bk_X3_findsTurn_26 : ev_prog.1 1015834 = b_X3_findsTurn_26 := rfl
theorem bk_X3_findsTurn_30 : ev_prog.1 1015838 = b_X3_findsTurn_30 := rfl
theorem bk_X3_findsTurn_45 : ev_prog.1 1015853 = b_X3_findsTurn_45 := rfl
theorem bk_X3_findsTurn_84 : ev_prog.1 1015892 = b_X3_findsTurn_84 := rfl
theorem bk_X3_findsTurn_90 : ev_prog.1 1015898 = b_X3_findsTurn_90 := rfl
theorem ml_X3_findsTurn : ev_prog.2.1 248 = 5 := rfl
theorem bk_X3_findsSets_0 : ev_prog.1 1019904 = b_X3_findsSets_0 := rfl
theorem bk_X3_findsSets_2 : ev_prog.1 1019906 = b_X3_findsSets_2 := rfl
theorem bk_X3_findsSets_22 : ev_prog.1 1019926 = b_X3_findsSets_22 := rfl
theorem bk_X3_findsSets_24 : ev_prog.1 1019928 = b_X3_findsSets_24 := rfl
theorem bk_X3_findsSets_43 : ev_prog.1 1019947 = b_X3_findsSets_43 := rfl
theorem ml_X3_findsSets : ev_prog.2.1 249 = 2 := rfl
theorem bk_X3_bitsOfTurn_0 : ev_prog.1 1024000 = b_X3_bitsOfTurn_0 := rfl
theorem ml_X3_bitsOfTurn : ev_prog.2.1 250 = 4 := rfl
theorem bk_X3_bitsOfSet_0 : ev_prog.1 1028096 = b_X3_bitsOfSet_0 := rfl
theorem bk_X3_bitsOfSet_10 : ev_prog.1 1028106 = b_X3_bitsOfSet_10 := rfl
theorem bk_X3_bitsOfSet_32 : ev_prog.1 1028128 = b_X3_bitsOfSet_32 := rfl
theorem bk_X3_bitsOfSet_43 : ev_prog.1 1028139 = b_X3_bitsOfSet_43 := rfl
theorem bk_X3_bitsOfSet_44 : ev_prog.1 1028140 = b_X3_bitsOfSet_44 := rfl
theorem bk_X3_bitsOfSet_53 : ev_prog.1 1028149 = b_X3_bitsOfSet_53 := rfl
theorem ml_X3_bitsOfSet : ev_prog.2.1 251 = 6 := rfl
theorem bk_X3_size_0 : ev_prog.1 1032192 = b_X3_size_0 := rfl
theorem bk_X3_size_4 : ev_prog.1 1032196 = b_X3_size_4 := rfl
theorem bk_X3_size_24 : ev_prog.1 1032216 = b_X3_size_24 := rfl
theorem ml_X3_size : ev_prog.2.1 252 = 3 := rfl
theorem bk_X3_many_0 : ev_prog.1 1036288 = b_X3_many_0 := rfl
theorem bk_X3_many_23 : ev_prog.1 1036311 = b_X3_many_23 := rfl
theorem bk_X3_many_25 : ev_prog.1 1036313 = b_X3_many_25 := rfl
theorem ml_X3_many : ev_prog.2.1 253 = 4 := rfl
theorem bk_J11_numberOfTrailingZeros_0 : ev_prog.1 1040384 = b_J11_numberOfTrailingZeros_0 := rfl
theorem bk_J11_numberOfTrailingZeros_17 : ev_prog.1 1040401 = b_J11_numberOfTrailingZeros_17 := rfl
theorem bk_J11_numberOfTrailingZeros_34 : ev_prog.1 1040418 = b_J11_numberOfTrailingZeros_34 := rfl
theorem bk_J11_numberOfTrailingZeros_49 : ev_prog.1 1040433 = b_J11_numberOfTrailingZeros_49 := rfl
theorem bk_J11_numberOfTrailingZeros_62 : ev_prog.1 1040446 = b_J11_numberOfTrailingZeros_62 := rfl
theorem bk_J11_numberOfTrailingZeros_74 : ev_prog.1 1040458 = b_J11_numberOfTrailingZeros_74 := rfl
theorem ml_J11_numberOfTrailingZeros : ev_prog.2.1 254 = 2 := rfl
theorem bk_J10_numberOfTrailingZeros_0 : ev_prog.1 1044480 = b_J10_numberOfTrailingZeros_0 := rfl
theorem bk_J10_numberOfTrailingZeros_21 : ev_prog.1 1044501 = b_J10_numberOfTrailingZeros_21 := rfl
theorem bk_J10_numberOfTrailingZeros_25 : ev_prog.1 1044505 = b_J10_numberOfTrailingZeros_25 := rfl
theorem ml_J10_numberOfTrailingZeros : ev_prog.2.1 255 = 3 := rfl
theorem bk_X0_piece_0 : ev_prog.1 1048576 = b_X0_piece_0 := rfl
theorem bk_X0_piece_28 : ev_prog.1 1048604 = b_X0_piece_28 := rfl
theorem bk_X0_piece_39 : ev_prog.1 1048615 = b_X0_piece_39 := rfl
theorem bk_X0_piece_73 : ev_prog.1 1048649 = b_X0_piece_73 := rfl
theorem ml_X0_piece : ev_prog.2.1 256 = 7 := rfl
theorem bk_X0_without_0 : ev_prog.1 1052672 = b_X0_without_0 := rfl
theorem bk_X0_without_5 : ev_prog.1 1052677 = b_X0_without_5 := rfl
theorem bk_X0_without_41 : ev_prog.1 1052713 = b_X0_without_41 := rfl
theorem ml_X0_without : ev_prog.2.1 257 = 6 := rfl
theorem bk_X0_piecesOf_0 : ev_prog.1 1056768 = b_X0_piecesOf_0 := rfl
theorem bk_X0_piecesOf_4 : ev_prog.1 1056772 = b_X0_piecesOf_4 := rfl
theorem bk_X0_piecesOf_25 : ev_prog.1 1056793 = b_X0_piecesOf_25 := rfl
theorem ml_X0_piecesOf : ev_prog.2.1 258 = 5 := rfl
theorem bk_X0_pieces_0 : ev_prog.1 1060864 = b_X0_pieces_0 := rfl
theorem bk_X0_pieces_13 : ev_prog.1 1060877 = b_X0_pieces_13 := rfl
theorem ml_X0_pieces : ev_prog.2.1 259 = 4 := rfl
theorem bk_X3_nextBit_0 : ev_prog.1 1064960 = b_X3_nextBit_0 := rfl
theorem bk_X3_nextBit_5 : ev_prog.1 1064965 = b_X3_nextBit_5 := rfl
theorem bk_X3_nextBit_23 : ev_prog.1 1064983 = b_X3_nextBit_23 := rfl
theorem bk_X3_nextBit_24 : ev_prog.1 1064984 = b_X3_nextBit_24 := rfl
theorem bk_X3_nextBit_31 : ev_prog.1 1064991 = b_X3_nextBit_31 := rfl
theorem ml_X3_nextBit : ev_prog.2.1 260 = 4 := rfl
theorem bk_X3_without_0 : ev_prog.1 1069056 = b_X3_without_0 := rfl
theorem bk_X3_without_30 : ev_prog.1 1069086 = b_X3_without_30 := rfl
theorem bk_X3_without_36 : ev_prog.1 1069092 = b_X3_without_36 := rfl
theorem bk_X3_without_52 : ev_prog.1 1069108 = b_X3_without_52 := rfl
theorem bk_X3_without_100 : ev_prog.1 1069156 = b_X3_without_100 := rfl
theorem ml_X3_without : ev_prog.2.1 261 = 5 := rfl
theorem bk_X3_piecesOf_0 : ev_prog.1 1073152 = b_X3_piecesOf_0 := rfl
theorem bk_X3_piecesOf_4 : ev_prog.1 1073156 = b_X3_piecesOf_4 := rfl
theorem bk_X3_piecesOf_20 : ev_prog.1 1073172 = b_X3_piecesOf_20 := rfl
theorem ml_X3_piecesOf : ev_prog.2.1 262 = 4 := rfl
theorem bk_X3_pieces_0 : ev_prog.1 1077248 = b_X3_pieces_0 := rfl
theorem bk_X3_pieces_24 : ev_prog.1 1077272 = b_X3_pieces_24 := rfl
theorem bk_X3_pieces_26 : ev_prog.1 1077274 = b_X3_pieces_26 := rfl
theorem ml_X3_pieces : ev_prog.2.1 263 = 4 := rfl
theorem bk_X0_piece_2_0 : ev_prog.1 1081344 = b_X0_piece_2_0 := rfl
theorem bk_X0_piece_2_28 : ev_prog.1 1081372 = b_X0_piece_2_28 := rfl
theorem bk_X0_piece_2_31 : ev_prog.1 1081375 = b_X0_piece_2_31 := rfl
theorem bk_X0_piece_2_47 : ev_prog.1 1081391 = b_X0_piece_2_47 := rfl
theorem bk_X0_piece_2_79 : ev_prog.1 1081423 = b_X0_piece_2_79 := rfl
theorem bk_X0_piece_2_91 : ev_prog.1 1081435 = b_X0_piece_2_91 := rfl
theorem bk_X0_piece_2_101 : ev_prog.1 1081445 = b_X0_piece_2_101 := rfl
theorem ml_X0_piece_2 : ev_prog.2.1 264 = 9 := rfl
theorem bk_X3_pieceOf_0 : ev_prog.1 1085440 = b_X3_pieceOf_0 := rfl
theorem bk_X3_pieceOf_6 : ev_prog.1 1085446 = b_X3_pieceOf_6 := rfl
theorem bk_X3_pieceOf_42 : ev_prog.1 1085482 = b_X3_pieceOf_42 := rfl
theorem bk_X3_pieceOf_54 : ev_prog.1 1085494 = b_X3_pieceOf_54 := rfl
theorem bk_X3_pieceOf_58 : ev_prog.1 1085498 = b_X3_pieceOf_58 := rfl
theorem bk_X3_pieceOf_59 : ev_prog.1 1085499 = b_X3_pieceOf_59 := rfl
theorem bk_X3_pieceOf_65 : ev_prog.1 1085505 = b_X3_pieceOf_65 := rfl
theorem ml_X3_pieceOf : ev_prog.2.1 265 = 6 := rfl
theorem bk_X3_piece_0 : ev_prog.1 1089536 = b_X3_piece_0 := rfl
theorem bk_X3_piece_43 : ev_prog.1 1089579 = b_X3_piece_43 := rfl
theorem bk_X3_piece_45 : ev_prog.1 1089581 = b_X3_piece_45 := rfl
theorem ml_X3_piece : ev_prog.2.1 266 = 6 := rfl
theorem bk_X0_isShared_0 : ev_prog.1 1093632 = b_X0_isShared_0 := rfl
theorem bk_X0_isShared_2 : ev_prog.1 1093634 = b_X0_isShared_2 := rfl
theorem bk_X0_isShared_12 : ev_prog.1 1093644 = b_X0_isShared_12 := rfl
theorem bk_X0_isShared_71 : ev_prog.1 1093703 = b_X0_isShared_71 := rfl
theorem bk_X0_isShared_77 : ev_prog.1 1093709 = b_X0_isShared_77 := rfl
theorem bk_X0_isShared_83 : ev_prog.1 1093715 = b_X0_isShared_83 := rfl
theorem ml_X0_isShared : ev_prog.2.1 267 = 6 := rfl
theorem bk_X6_isOf_0 : ev_prog.1 1097728 = b_X6_isOf_0 := rfl
theorem bk_X6_isOf_2 : ev_prog.1 1097730 = b_X6_isOf_2 := rfl
theorem bk_X6_isOf_29 : ev_prog.1 1097757 = b_X6_isOf_29 := rfl
theorem bk_X6_isOf_35 : ev_prog.1 1097763 = b_X6_isOf_35 := rfl
theorem ml_X6_isOf : ev_prog.2.1 268 = 3 := rfl
theorem bk_X0_isGathered_0 : ev_prog.1 1101824 = b_X0_isGathered_0 := rfl
theorem bk_X0_isGathered_5 : ev_prog.1 1101829 = b_X0_isGathered_5 := rfl
theorem bk_X0_isGathered_43 : ev_prog.1 1101867 = b_X0_isGathered_43 := rfl
theorem bk_X0_isGathered_65 : ev_prog.1 1101889 = b_X0_isGathered_65 := rfl
theorem bk_X0_isGathered_66 : ev_prog.1 1101890 = b_X0_isGathered_66 := rfl
theorem bk_X0_isGathered_83 : ev_prog.1 1101907 = b_X0_isGathered_83 := rfl
theorem bk_X0_isGathered_85 : ev_prog.1 1101909 = b_X0_isGathered_85 := rfl
theorem bk_X0_isGathered_88 : ev_prog.1 1101912 = b_X0_isGathered_88 := rfl
theorem bk_X0_isGathered_94 : ev_prog.1 1101918 = b_X0_isGathered_94 := rfl
theorem bk_X0_isGathered_102 : ev_prog.1 1101926 = b_X0_isGathered_102 := rfl
theorem bk_X0_isGathered_103 : ev_prog.1 1101927 = b_X0_isGathered_103 := rfl
theorem ml_X0_isGathered : ev_prog.2.1 269 = 7 := rfl
theorem bk_X0_waits_0 : ev_prog.1 1105920 = b_X0_waits_0 := rfl
theorem bk_X0_waits_5 : ev_prog.1 1105925 = b_X0_waits_5 := rfl
theorem bk_X0_waits_36 : ev_prog.1 1105956 = b_X0_waits_36 := rfl
theorem bk_X0_waits_57 : ev_prog.1 1105977 = b_X0_waits_57 := rfl
theorem ml_X0_waits : ev_prog.2.1 270 = 5 := rfl
theorem bk_X0_verdictBy_0 : ev_prog.1 1110016 = b_X0_verdictBy_0 := rfl
theorem bk_X0_verdictBy_14 : ev_prog.1 1110030 = b_X0_verdictBy_14 := rfl
theorem bk_X0_verdictBy_24 : ev_prog.1 1110040 = b_X0_verdictBy_24 := rfl
theorem bk_X0_verdictBy_35 : ev_prog.1 1110051 = b_X0_verdictBy_35 := rfl
theorem bk_X0_verdictBy_48 : ev_prog.1 1110064 = b_X0_verdictBy_48 := rfl
theorem bk_X0_verdictBy_49 : ev_prog.1 1110065 = b_X0_verdictBy_49 := rfl
theorem ml_X0_verdictBy : ev_prog.2.1 271 = 3 := rfl
theorem bk_X0_verdictOf_0 : ev_prog.1 1114112 = b_X0_verdictOf_0 := rfl
theorem bk_X0_verdictOf_14 : ev_prog.1 1114126 = b_X0_verdictOf_14 := rfl
theorem bk_X0_verdictOf_23 : ev_prog.1 1114135 = b_X0_verdictOf_23 := rfl
theorem ml_X0_verdictOf : ev_prog.2.1 272 = 3 := rfl
theorem bk_X0_verdict_0 : ev_prog.1 1118208 = b_X0_verdict_0 := rfl
theorem bk_X0_verdict_10 : ev_prog.1 1118218 = b_X0_verdict_10 := rfl
theorem ml_X0_verdict : ev_prog.2.1 273 = 2 := rfl
theorem bk_X3_isWritten_0 : ev_prog.1 1122304 = b_X3_isWritten_0 := rfl
theorem bk_X3_isWritten_4 : ev_prog.1 1122308 = b_X3_isWritten_4 := rfl
theorem bk_X3_isWritten_28 : ev_prog.1 1122332 = b_X3_isWritten_28 := rfl
theorem bk_X3_isWritten_36 : ev_prog.1 1122340 = b_X3_isWritten_36 := rfl
theorem bk_X3_isWritten_37 : ev_prog.1 1122341 = b_X3_isWritten_37 := rfl
theorem ml_X3_isWritten : ev_prog.2.1 274 = 4 := rfl
theorem bk_X3_isShared_0 : ev_prog.1 1126400 = b_X3_isShared_0 := rfl
theorem bk_X3_isShared_4 : ev_prog.1 1126404 = b_X3_isShared_4 := rfl
theorem bk_X3_isShared_15 : ev_prog.1 1126415 = b_X3_isShared_15 := rfl
theorem bk_X3_isShared_66 : ev_prog.1 1126466 = b_X3_isShared_66 := rfl
theorem bk_X3_isShared_70 : ev_prog.1 1126470 = b_X3_isShared_70 := rfl
theorem bk_X3_isShared_71 : ev_prog.1 1126471 = b_X3_isShared_71 := rfl
theorem bk_X3_isShared_78 : ev_prog.1 1126478 = b_X3_isShared_78 := rfl
theorem bk_X3_isShared_84 : ev_prog.1 1126484 = b_X3_isShared_84 := rfl
theorem ml_X3_isShared : ev_prog.2.1 275 = 6 := rfl
theorem bk_X3_isAbout_0 : ev_prog.1 1130496 = b_X3_isAbout_0 := rfl
theorem bk_X3_isAbout_51 : ev_prog.1 1130547 = b_X3_isAbout_51 := rfl
theorem bk_X3_isAbout_55 : ev_prog.1 1130551 = b_X3_isAbout_55 := rfl
theorem bk_X3_isAbout_56 : ev_prog.1 1130552 = b_X3_isAbout_56 := rfl
theorem ml_X3_isAbout : ev_prog.2.1 276 = 3 := rfl
theorem bk_X3_isGathered_0 : ev_prog.1 1134592 = b_X3_isGathered_0 := rfl
theorem bk_X3_isGathered_9 : ev_prog.1 1134601 = b_X3_isGathered_9 := rfl
theorem bk_X3_isGathered_73 : ev_prog.1 1134665 = b_X3_isGathered_73 := rfl
theorem bk_X3_isGathered_77 : ev_prog.1 1134669 = b_X3_isGathered_77 := rfl
theorem bk_X3_isGathered_78 : ev_prog.1 1134670 = b_X3_isGathered_78 := rfl
theorem bk_X3_isGathered_84 : ev_prog.1 1134676 = b_X3_isGathered_84 := rfl
theorem bk_X3_isGathered_90 : ev_prog.1 1134682 = b_X3_isGathered_90 := rfl
theorem bk_X3_isGathered_104 : ev_prog.1 1134696 = b_X3_isGathered_104 := rfl
theorem bk_X3_isGathered_105 : ev_prog.1 1134697 = b_X3_isGathered_105 := rfl
theorem ml_X3_isGathered : ev_prog.2.1 277 = 8 := rfl
theorem bk_X3_isCopied_0 : ev_prog.1 1138688 = b_X3_isCopied_0 := rfl
theorem bk_X3_isCopied_7 : ev_prog.1 1138695 = b_X3_isCopied_7 := rfl
theorem bk_X3_isCopied_37 : ev_prog.1 1138725 = b_X3_isCopied_37 := rfl
theorem bk_X3_isCopied_38 : ev_prog.1 1138726 = b_X3_isCopied_38 := rfl
theorem bk_X3_isCopied_56 : ev_prog.1 1138744 = b_X3_isCopied_56 := rfl
theorem ml_X3_isCopied : ev_prog.2.1 278 = 5 := rfl
theorem bk_X3_verdictAs_0 : ev_prog.1 1142784 = b_X3_verdictAs_0 := rfl
theorem bk_X3_verdictAs_16 : ev_prog.1 1142800 = b_X3_verdictAs_16 := rfl
theorem bk_X3_verdictAs_28 : ev_prog.1 1142812 = b_X3_verdictAs_28 := rfl
theorem bk_X3_verdictAs_42 : ev_prog.1 1142826 = b_X3_verdictAs_42 := rfl
theorem bk_X3_verdictAs_54 : ev_prog.1 1142838 = b_X3_verdictAs_54 := rfl
theorem bk_X3_verdictAs_55 : ev_prog.1 1142839 = b_X3_verdictAs_55 := rfl
theorem ml_X3_verdictAs : ev_prog.2.1 279 = 4 := rfl
theorem bk_X3_verdictOf_0 : ev_prog.1 1146880 = b_X3_verdictOf_0 := rfl
theorem ml_X3_verdictOf : ev_prog.2.1 280 = 2 := rfl
theorem bk_X3_verdict_0 : ev_prog.1 1150976 = b_X3_verdict_0 := rfl
theorem bk_X3_verdict_15 : ev_prog.1 1150991 = b_X3_verdict_15 := rfl
theorem bk_X3_verdict_17 : ev_prog.1 1150993 = b_X3_verdict_17 := rfl
theorem ml_X3_verdict : ev_prog.2.1 281 = 2 := rfl
theorem bk_X0_would_0 : ev_prog.1 1155072 = b_X0_would_0 := rfl
theorem bk_X0_would_19 : ev_prog.1 1155091 = b_X0_would_19 := rfl
theorem bk_X0_would_22 : ev_prog.1 1155094 = b_X0_would_22 := rfl
theorem bk_X0_would_37 : ev_prog.1 1155109 = b_X0_would_37 := rfl
theorem bk_X0_would_52 : ev_prog.1 1155124 = b_X0_would_52 := rfl
theorem ml_X0_would : ev_prog.2.1 282 = 3 := rfl
theorem bk_X3_would_0 : ev_prog.1 1159168 = b_X3_would_0 := rfl
theorem bk_X3_would_16 : ev_prog.1 1159184 = b_X3_would_16 := rfl
theorem bk_X3_would_19 : ev_prog.1 1159187 = b_X3_would_19 := rfl
theorem bk_X3_would_37 : ev_prog.1 1159205 = b_X3_would_37 := rfl
theorem bk_X3_would_52 : ev_prog.1 1159220 = b_X3_would_52 := rfl
theorem bk_X3_would_59 : ev_prog.1 1159227 = b_X3_would_59 := rfl
theorem ml_X3_would : ev_prog.2.1 283 = 3 := rfl
theorem bk_X0_lastOf_0 : ev_prog.1 1163264 = b_X0_lastOf_0 := rfl
theorem bk_X0_lastOf_6 : ev_prog.1 1163270 = b_X0_lastOf_6 := rfl
theorem bk_X0_lastOf_38 : ev_prog.1 1163302 = b_X0_lastOf_38 := rfl
theorem ml_X0_lastOf : ev_prog.2.1 284 = 6 := rfl
theorem bk_X0_witnessBy_0 : ev_prog.1 1167360 = b_X0_witnessBy_0 := rfl
theorem bk_X0_witnessBy_16 : ev_prog.1 1167376 = b_X0_witnessBy_16 := rfl
theorem bk_X0_witnessBy_18 : ev_prog.1 1167378 = b_X0_witnessBy_18 := rfl
theorem bk_X0_witnessBy_24 : ev_prog.1 1167384 = b_X0_witnessBy_24 := rfl
theorem bk_X0_witnessBy_53 : ev_prog.1 1167413 = b_X0_witnessBy_53 := rfl
theorem bk_X0_witnessBy_82 : ev_prog.1 1167442 = b_X0_witnessBy_82 := rfl
theorem bk_X0_witnessBy_91 : ev_prog.1 1167451 = b_X0_witnessBy_91 := rfl
theorem ml_X0_witnessBy : ev_prog.2.1 285 = 7 := rfl
theorem bk_X0_witness_0 : ev_prog.1 1171456 = b_X0_witness_0 := rfl
theorem bk_X0_witness_19 : ev_prog.1 1171475 = b_X0_witness_19 := rfl
theorem bk_X0_witness_22 : ev_prog.1 1171478 = b_X0_witness_22 := rfl
theorem ml_X0_witness : ev_prog.2.1 286 = 3 := rfl
theorem bk_X3_witnessOf_0 : ev_prog.1 1175552 = b_X3_witnessOf_0 := rfl
theorem bk_X3_witnessOf_9 : ev_prog.1 1175561 = b_X3_witnessOf_9 := rfl
theorem bk_X3_witnessOf_46 : ev_prog.1 1175598 = b_X3_witnessOf_46 := rfl
theorem bk_X3_witnessOf_75 : ev_prog.1 1175627 = b_X3_witnessOf_75 := rfl
theorem bk_X3_witnessOf_77 : ev_prog.1 1175629 = b_X3_witnessOf_77 := rfl
theorem bk_X3_witnessOf_85 : ev_prog.1 1175637 = b_X3_witnessOf_85 := rfl
theorem bk_X3_witnessOf_94 : ev_prog.1 1175646 = b_X3_witnessOf_94 := rfl
theorem bk_X3_witnessOf_104 : ev_prog.1 1175656 = b_X3_witnessOf_104 := rfl
theorem bk_X3_witnessOf_106 : ev_prog.1 1175658 = b_X3_witnessOf_106 := rfl
theorem bk_X3_witnessOf_107 : ev_prog.1 1175659 = b_X3_witnessOf_107 := rfl
theorem bk_X3_witnessOf_124 : ev_prog.1 1175676 = b_X3_witnessOf_124 := rfl
theorem ml_X3_witnessOf : ev_prog.2.1 287 = 8 := rfl
theorem bk_X3_witness_0 : ev_prog.1 1179648 = b_X3_witness_0 := rfl
theorem bk_X3_witness_25 : ev_prog.1 1179673 = b_X3_witness_25 := rfl
theorem bk_X3_witness_27 : ev_prog.1 1179675 = b_X3_witness_27 := rfl
theorem ml_X3_witness : ev_prog.2.1 288 = 3 := rfl
theorem bk_X0_last_0 : ev_prog.1 1183744 = b_X0_last_0 := rfl
theorem bk_X0_last_31 : ev_prog.1 1183775 = b_X0_last_31 := rfl
theorem bk_X0_last_34 : ev_prog.1 1183778 = b_X0_last_34 := rfl
theorem ml_X0_last : ev_prog.2.1 289 = 4 := rfl
theorem bk_X3_lastOf_0 : ev_prog.1 1187840 = b_X3_lastOf_0 := rfl
theorem bk_X3_lastOf_10 : ev_prog.1 1187850 = b_X3_lastOf_10 := rfl
theorem bk_X3_lastOf_40 : ev_prog.1 1187880 = b_X3_lastOf_40 := rfl
theorem bk_X3_lastOf_42 : ev_prog.1 1187882 = b_X3_lastOf_42 := rfl
theorem bk_X3_lastOf_50 : ev_prog.1 1187890 = b_X3_lastOf_50 := rfl
theorem ml_X3_lastOf : ev_prog.2.1 290 = 6 := rfl
theorem bk_X3_last_0 : ev_prog.1 1191936 = b_X3_last_0 := rfl
theorem bk_X3_last_36 : ev_prog.1 1191972 = b_X3_last_36 := rfl
theorem bk_X3_last_38 : ev_prog.1 1191974 = b_X3_last_38 := rfl
theorem ml_X3_last : ev_prog.2.1 291 = 4 := rfl
theorem bk_X2_passes_0 : ev_prog.1 1196032 = b_X2_passes_0 := rfl
theorem bk_X2_passes_15 : ev_prog.1 1196047 = b_X2_passes_15 := rfl
theorem bk_X2_passes_72 : ev_prog.1 1196104 = b_X2_passes_72 := rfl
theorem ml_X2_passes : ev_prog.2.1 292 = 1 := rfl
theorem bk_X2_begins_0 : ev_prog.1 1200128 = b_X2_begins_0 := rfl
theorem bk_X2_begins_17 : ev_prog.1 1200145 = b_X2_begins_17 := rfl
theorem bk_X2_begins_39 : ev_prog.1 1200167 = b_X2_begins_39 := rfl
theorem ml_X2_begins : ev_prog.2.1 293 = 3 := rfl
theorem bk_X0_begins_0 : ev_prog.1 1204224 = b_X0_begins_0 := rfl
theorem bk_X0_begins_6 : ev_prog.1 1204230 = b_X0_begins_6 := rfl
theorem bk_X0_begins_37 : ev_prog.1 1204261 = b_X0_begins_37 := rfl
theorem bk_X0_begins_41 : ev_prog.1 1204265 = b_X0_begins_41 := rfl
theorem bk_X0_begins_42 : ev_prog.1 1204266 = b_X0_begins_42 := rfl
theorem bk_X0_begins_54 : ev_prog.1 1204278 = b_X0_begins_54 := rfl
theorem bk_X0_begins_84 : ev_prog.1 1204308 = b_X0_begins_84 := rfl
theorem bk_X0_begins_90 : ev_prog.1 1204314 = b_X0_begins_90 := rfl
theorem bk_X0_begins_92 : ev_prog.1 1204316 = b_X0_begins_92 := rfl
theorem bk_X0_begins_110 : ev_prog.1 1204334 = b_X0_begins_110 := rfl
theorem bk_X0_begins_122 : ev_prog.1 1204346 = b_X0_begins_122 := rfl
theorem bk_X0_begins_146 : ev_prog.1 1204370 = b_X0_begins_146 := rfl
theorem ml_X0_begins : ev_prog.2.1 294 = 6 := rfl
theorem bk_X2_isLeft_0 : ev_prog.1 1208320 = b_X2_isLeft_0 := rfl
theorem bk_X2_isLeft_28 : ev_prog.1 1208348 = b_X2_isLeft_28 := rfl
theorem bk_X2_isLeft_29 : ev_prog.1 1208349 = b_X2_isLeft_29 := rfl
theorem ml_X2_isLeft : ev_prog.2.1 295 = 1 := rfl
theorem bk_X2_wrong_0 : ev_prog.1 1212416 = b_X2_wrong_0 := rfl
theorem bk_X2_wrong_10 : ev_prog.1 1212426 = b_X2_wrong_10 := rfl
theorem bk_X2_wrong_30 : ev_prog.1 1212446 = b_X2_wrong_30 := rfl
theorem bk_X2_wrong_58 : ev_prog.1 1212474 = b_X2_wrong_58 := rfl
theorem bk_X2_wrong_59 : ev_prog.1 1212475 = b_X2_wrong_59 := rfl
theorem ml_X2_wrong : ev_prog.2.1 296 = 3 := rfl
theorem bk_X2_against_0 : ev_prog.1 1216512 = b_X2_against_0 := rfl
theorem bk_X2_against_33 : ev_prog.1 1216545 = b_X2_against_33 := rfl
theorem bk_X2_against_50 : ev_prog.1 1216562 = b_X2_against_50 := rfl
theorem bk_X2_against_51 : ev_prog.1 1216563 = b_X2_against_51 := rfl
theorem ml_X2_against : ev_prog.2.1 297 = 3 := rfl
theorem bk_X4_at_0 : ev_prog.1 1220608 = b_X4_at_0 := rfl
theorem bk_X4_at_32 : ev_prog.1 1220640 = b_X4_at_32 := rfl
theorem bk_X4_at_43 : ev_prog.1 1220651 = b_X4_at_43 := rfl
theorem bk_X4_at_54 : ev_prog.1 1220662 = b_X4_at_54 := rfl
theorem bk_X4_at_65 : ev_prog.1 1220673 = b_X4_at_65 := rfl
theorem ml_X4_at : ev_prog.2.1 298 = 2 := rfl
theorem bk_X2_value_0 : ev_prog.1 1224704 = b_X2_value_0 := rfl
theorem bk_X2_value_21 : ev_prog.1 1224725 = b_X2_value_21 := rfl
theorem bk_X2_value_83 : ev_prog.1 1224787 = b_X2_value_83 := rfl
theorem bk_X2_value_99 : ev_prog.1 1224803 = b_X2_value_99 := rfl
theorem ml_X2_value : ev_prog.2.1 299 = 4 := rfl
theorem bk_X1_isWhole_0 : ev_prog.1 1228800 = b_X1_isWhole_0 := rfl
theorem bk_X1_isWhole_24 : ev_prog.1 1228824 = b_X1_isWhole_24 := rfl
theorem bk_X1_isWhole_28 : ev_prog.1 1228828 = b_X1_isWhole_28 := rfl
theorem bk_X1_isWhole_29 : ev_prog.1 1228829 = b_X1_isWhole_29 := rfl
theorem ml_X1_isWhole : ev_prog.2.1 300 = 1 := rfl
theorem bk_X0_formOf_0 : ev_prog.1 1232896 = b_X0_formOf_0 := rfl
theorem bk_X0_formOf_12 : ev_prog.1 1232908 = b_X0_formOf_12 := rfl
theorem bk_X0_formOf_28 : ev_prog.1 1232924 = b_X0_formOf_28 := rfl
theorem ml_X0_formOf : ev_prog.2.1 301 = 2 := rfl
theorem bk_X0_widthOf_0 : ev_prog.1 1236992 = b_X0_widthOf_0 := rfl
theorem bk_X0_widthOf_12 : ev_prog.1 1237004 = b_X0_widthOf_12 := rfl
theorem bk_X0_widthOf_58 : ev_prog.1 1237050 = b_X0_widthOf_58 := rfl
theorem bk_X0_widthOf_59 : ev_prog.1 1237051 = b_X0_widthOf_59 := rfl
theorem ml_X0_widthOf : ev_prog.2.1 302 = 3 := rfl
theorem bk_X1_lambda_all_0_0 : ev_prog.1 1241088 = b_X1_lambda_all_0_0 := rfl
theorem ml_X1_lambda_all_0 : ev_prog.2.1 303 = 2 := rfl
theorem bk_X1_lambda_all_3_0 : ev_prog.1 1245184 = b_X1_lambda_all_3_0 := rfl
theorem ml_X1_lambda_all_3 : ev_prog.2.1 304 = 2 := rfl
theorem bk_X1_lambda_all_6_0 : ev_prog.1 1249280 = b_X1_lambda_all_6_0 := rfl
theorem ml_X1_lambda_all_6 : ev_prog.2.1 305 = 2 := rfl
theorem bk_X1_rest_0 : ev_prog.1 1253376 = b_X1_rest_0 := rfl
theorem bk_X1_rest_8 : ev_prog.1 1253384 = b_X1_rest_8 := rfl
theorem bk_X1_rest_11 : ev_prog.1 1253387 = b_X1_rest_11 := rfl
theorem ml_X1_rest : ev_prog.2.1 306 = 2 := rfl
theorem bk_X1_lambda_all_9_0 : ev_prog.1 1257472 = b_X1_lambda_all_9_0 := rfl
theorem bk_X1_lambda_all_9_9 : ev_prog.1 1257481 = b_X1_lambda_all_9_9 := rfl
theorem bk_X1_lambda_all_9_10 : ev_prog.1 1257482 = b_X1_lambda_all_9_10 := rfl
theorem ml_X1_lambda_all_9 : ev_prog.2.1 307 = 2 := rfl
theorem bk_X1_lambda_all_12_0 : ev_prog.1 1261568 = b_X1_lambda_all_12_0 := rfl
theorem bk_X1_lambda_all_12_9 : ev_prog.1 1261577 = b_X1_lambda_all_12_9 := rfl
theorem bk_X1_lambda_all_12_10 : ev_prog.1 1261578 = b_X1_lambda_all_12_10 := rfl
theorem ml_X1_lambda_all_12 : ev_prog.2.1 308 = 2 := rfl
theorem bk_X1_lambda_all_15_0 : ev_prog.1 1265664 = b_X1_lambda_all_15_0 := rfl
theorem ml_X1_lambda_all_15 : ev_prog.2.1 309 = 2 := rfl
theorem bk_X1_lambda_all_16_0 : ev_prog.1 1269760 = b_X1_lambda_all_16_0 := rfl
theorem ml_X1_lambda_all_16 : ev_prog.2.1 310 = 2 := rfl
theorem bk_X1_lambda_all_17_0 : ev_prog.1 1273856 = b_X1_lambda_all_17_0 := rfl
theorem ml_X1_lambda_all_17 : ev_prog.2.1 311 = 2 := rfl
theorem bk_X1_lambda_all_18_0 : ev_prog.1 1277952 = b_X1_lambda_all_18_0 := rfl
theorem ml_X1_lambda_all_18 : ev_prog.2.1 312 = 2 := rfl
theorem bk_X1_lambda_all_21_0 : ev_prog.1 1282048 = b_X1_lambda_all_21_0 := rfl
theorem ml_X1_lambda_all_21 : ev_prog.2.1 313 = 2 := rfl
theorem bk_J8_addExact_0 : ev_prog.1 1286144 = b_J8_addExact_0 := rfl
theorem bk_J8_addExact_24 : ev_prog.1 1286168 = b_J8_addExact_24 := rfl
theorem ml_J8_addExact : ev_prog.2.1 314 = 3 := rfl
theorem bk_X1_sum_0 : ev_prog.1 1290240 = b_X1_sum_0 := rfl
theorem ml_X1_sum : ev_prog.2.1 315 = 2 := rfl
theorem bk_J8_multiplyExact_0 : ev_prog.1 1294336 = b_J8_multiplyExact_0 := rfl
theorem bk_J8_multiplyExact_24 : ev_prog.1 1294360 = b_J8_multiplyExact_24 := rfl
theorem ml_J8_multiplyExact : ev_prog.2.1 316 = 4 := rfl
theorem bk_X1_product_0 : ev_prog.1 1298432 = b_X1_product_0 := rfl
theorem ml_X1_product : ev_prog.2.1 317 = 2 := rfl
theorem bk_X1_lambda_all_1_0 : ev_prog.1 1302528 = b_X1_lambda_all_1_0 := rfl
theorem ml_X1_lambda_all_1 : ev_prog.2.1 318 = 2 := rfl
theorem bk_X1_lambda_all_4_0 : ev_prog.1 1306624 = b_X1_lambda_all_4_0 := rfl
theorem ml_X1_lambda_all_4 : ev_prog.2.1 319 = 2 := rfl
theorem bk_X1_lambda_all_7_0 : ev_prog.1 1310720 = b_X1_lambda_all_7_0 := rfl
theorem ml_X1_lambda_all_7 : ev_prog.2.1 320 = 2 := rfl
theorem bk_X1_restOf_0 : ev_prog.1 1314816 = b_X1_restOf_0 := rfl
theorem bk_X1_restOf_10 : ev_prog.1 1314826 = b_X1_restOf_10 := rfl
theorem bk_X1_restOf_13 : ev_prog.1 1314829 = b_X1_restOf_13 := rfl
theorem ml_X1_restOf : ev_prog.2.1 321 = 2 := rfl
theorem bk_X1_lambda_all_10_0 : ev_prog.1 1318912 = b_X1_lambda_all_10_0 := rfl
theorem bk_X1_lambda_all_10_10 : ev_prog.1 1318922 = b_X1_lambda_all_10_10 := rfl
theorem bk_X1_lambda_all_10_11 : ev_prog.1 1318923 = b_X1_lambda_all_10_11 := rfl
theorem ml_X1_lambda_all_10 : ev_prog.2.1 322 = 2 := rfl
theorem bk_X1_lambda_all_13_0 : ev_prog.1 1323008 = b_X1_lambda_all_13_0 := rfl
theorem bk_X1_lambda_all_13_10 : ev_prog.1 1323018 = b_X1_lambda_all_13_10 := rfl
theorem bk_X1_lambda_all_13_11 : ev_prog.1 1323019 = b_X1_lambda_all_13_11 := rfl
theorem ml_X1_lambda_all_13 : ev_prog.2.1 323 = 2 := rfl
theorem bk_X1_lambda_all_19_0 : ev_prog.1 1327104 = b_X1_lambda_all_19_0 := rfl
theorem ml_X1_lambda_all_19 : ev_prog.2.1 324 = 2 := rfl
theorem bk_X1_lambda_all_22_0 : ev_prog.1 1331200 = b_X1_lambda_all_22_0 := rfl
theorem ml_X1_lambda_all_22 : ev_prog.2.1 325 = 2 := rfl
theorem bk_X1_lambda_all_2_0 : ev_prog.1 1335296 = b_X1_lambda_all_2_0 := rfl
theorem ml_X1_lambda_all_2 : ev_prog.2.1 326 = 4 := rfl
theorem bk_X1_lambda_all_5_0 : ev_prog.1 1339392 = b_X1_lambda_all_5_0 := rfl
theorem ml_X1_lambda_all_5 : ev_prog.2.1 327 = 4 := rfl
theorem bk_X1_lambda_all_8_0 : ev_prog.1 1343488 = b_X1_lambda_all_8_0 := rfl
theorem ml_X1_lambda_all_8 : ev_prog.2.1 328 = 4 := rfl
theorem bk_X1_restIn_0 : ev_prog.1 1347584 = b_X1_restIn_0 := rfl
theorem bk_X1_restIn_10 : ev_prog.1 1347594 = b_X1_restIn_10 := rfl
theorem bk_X1_restIn_13 : ev_prog.1 1347597 = b_X1_restIn_13 := rfl
theorem ml_X1_restIn : ev_prog.2.1 329 = 4 := rfl
theorem bk_X1_lambda_all_11_0 : ev_prog.1 1351680 = b_X1_lambda_all_11_0 := rfl
theorem bk_X1_lambda_all_11_10 : ev_prog.1 1351690 = b_X1_lambda_all_11_10 := rfl
theorem bk_X1_lambda_all_11_11 : ev_prog.1 1351691 = b_X1_lambda_all_11_11 := rfl
theorem ml_X1_lambda_all_11 : ev_prog.2.1 330 = 4 := rfl
theorem bk_X1_lambda_all_14_0 : ev_prog.1 1355776 = b_X1_lambda_all_14_0 := rfl
theorem bk_X1_lambda_all_14_10 : ev_prog.1 1355786 = b_X1_lambda_all_14_10 := rfl
theorem bk_X1_lambda_all_14_11 : ev_prog.1 1355787 = b_X1_lambda_all_14_11 := rfl
theorem ml_X1_lambda_all_14 : ev_prog.2.1 331 = 4 := rfl
theorem bk_X1_lambda_all_20_0 : ev_prog.1 1359872 = b_X1_lambda_all_20_0 := rfl
theorem ml_X1_lambda_all_20 : ev_prog.2.1 332 = 4 := rfl
theorem bk_X1_lambda_all_23_0 : ev_prog.1 1363968 = b_X1_lambda_all_23_0 := rfl
theorem ml_X1_lambda_all_23 : ev_prog.2.1 333 = 4 := rfl
theorem bk_X0_done_0 : ev_prog.1 1368064 = b_X0_done_0 := rfl
theorem bk_X0_done_28 : ev_prog.1 1368092 = b_X0_done_28 := rfl
theorem bk_X0_done_44 : ev_prog.1 1368108 = b_X0_done_44 := rfl
theorem bk_X0_done_62 : ev_prog.1 1368126 = b_X0_done_62 := rfl
theorem ml_X0_done : ev_prog.2.1 334 = 6 := rfl
theorem bk_X4_cast_0 : ev_prog.1 1372160 = b_X4_cast_0 := rfl
theorem bk_X4_cast_32 : ev_prog.1 1372192 = b_X4_cast_32 := rfl
theorem bk_X4_cast_37 : ev_prog.1 1372197 = b_X4_cast_37 := rfl
theorem bk_X4_cast_41 : ev_prog.1 1372201 = b_X4_cast_41 := rfl
theorem bk_X4_cast_47 : ev_prog.1 1372207 = b_X4_cast_47 := rfl
theorem ml_X4_cast : ev_prog.2.1 335 = 3 := rfl
theorem bk_X2_brings_0 : ev_prog.1 1376256 = b_X2_brings_0 := rfl
theorem bk_X2_brings_66 : ev_prog.1 1376322 = b_X2_brings_66 := rfl
theorem bk_X2_brings_67 : ev_prog.1 1376323 = b_X2_brings_67 := rfl
theorem bk_X2_brings_92 : ev_prog.1 1376348 = b_X2_brings_92 := rfl
theorem bk_X2_brings_113 : ev_prog.1 1376369 = b_X2_brings_113 := rfl
theorem bk_X2_brings_144 : ev_prog.1 1376400 = b_X2_brings_144 := rfl
theorem bk_X2_brings_150 : ev_prog.1 1376406 = b_X2_brings_150 := rfl
theorem ml_X2_brings : ev_prog.2.1 336 = 8 := rfl
theorem bk_X0_isGreater_0 : ev_prog.1 1380352 = b_X0_isGreater_0 := rfl
theorem bk_X0_isGreater_16 : ev_prog.1 1380368 = b_X0_isGreater_16 := rfl
theorem bk_X0_isGreater_20 : ev_prog.1 1380372 = b_X0_isGreater_20 := rfl
theorem bk_X0_isGreater_37 : ev_prog.1 1380389 = b_X0_isGreater_37 := rfl
theorem bk_X0_isGreater_41 : ev_prog.1 1380393 = b_X0_isGreater_41 := rfl
theorem bk_X0_isGreater_51 : ev_prog.1 1380403 = b_X0_isGreater_51 := rfl
theorem bk_X0_isGreater_52 : ev_prog.1 1380404 = b_X0_isGreater_52 := rfl
theorem ml_X0_isGreater : ev_prog.2.1 337 = 5 := rfl
theorem bk_X4_becomes_0 : ev_prog.1 1384448 = b_X4_becomes_0 := rfl
theorem bk_X4_becomes_32 : ev_prog.1 1384480 = b_X4_becomes_32 := rfl
theorem bk_X4_becomes_47 : ev_prog.1 1384495 = b_X4_becomes_47 := rfl
theorem bk_X4_becomes_61 : ev_prog.1 1384509 = b_X4_becomes_61 := rfl
theorem bk_X4_becomes_75 : ev_prog.1 1384523 = b_X4_becomes_75 := rfl
theorem bk_X4_becomes_85 : ev_prog.1 1384533 = b_X4_becomes_85 := rfl
theorem ml_X4_becomes : ev_prog.2.1 338 = 4 := rfl
theorem bk_X2_writes_0 : ev_prog.1 1388544 = b_X2_writes_0 := rfl
theorem bk_X2_writes_66 : ev_prog.1 1388610 = b_X2_writes_66 := rfl
theorem bk_X2_writes_106 : ev_prog.1 1388650 = b_X2_writes_106 := rfl
theorem ml_X2_writes : ev_prog.2.1 339 = 6 := rfl
theorem bk_X2_acts_0 : ev_prog.1 1392640 = b_X2_acts_0 := rfl
theorem bk_X2_acts_26 : ev_prog.1 1392666 = b_X2_acts_26 := rfl
theorem bk_X2_acts_27 : ev_prog.1 1392667 = b_X2_acts_27 := rfl
theorem bk_X2_acts_52 : ev_prog.1 1392692 = b_X2_acts_52 := rfl
theorem bk_X2_acts_98 : ev_prog.1 1392738 = b_X2_acts_98 := rfl
theorem bk_X2_acts_132 : ev_prog.1 1392772 = b_X2_acts_132 := rfl
theorem ml_X2_acts : ev_prog.2.1 340 = 9 := rfl
theorem bk_X2_goesOn_0 : ev_prog.1 1396736 = b_X2_goesOn_0 := rfl
theorem bk_X2_goesOn_22 : ev_prog.1 1396758 = b_X2_goesOn_22 := rfl
theorem ml_X2_goesOn : ev_prog.2.1 341 = 2 := rfl
theorem bk_X2_steps_0 : ev_prog.1 1400832 = b_X2_steps_0 := rfl
theorem bk_X2_steps_35 : ev_prog.1 1400867 = b_X2_steps_35 := rfl
theorem bk_X2_steps_50 : ev_prog.1 1400882 = b_X2_steps_50 := rfl
theorem ml_X2_steps : ev_prog.2.1 342 = 3 := rfl
theorem bk_X0_steps_0 : ev_prog.1 1404928 = b_X0_steps_0 := rfl
theorem bk_X0_steps_16 : ev_prog.1 1404944 = b_X0_steps_16 := rfl
theorem bk_X0_steps_17 : ev_prog.1 1404945 = b_X0_steps_17 := rfl
theorem bk_X0_steps_29 : ev_prog.1 1404957 = b_X0_steps_29 := rfl
theorem ml_X0_steps : ev_prog.2.1 343 = 2 := rfl
theorem bk_X0_runs_0 : ev_prog.1 1409024 = b_X0_runs_0 := rfl
theorem bk_X0_runs_7 : ev_prog.1 1409031 = b_X0_runs_7 := rfl
theorem bk_X0_runs_15 : ev_prog.1 1409039 = b_X0_runs_15 := rfl
theorem bk_X0_runs_40 : ev_prog.1 1409064 = b_X0_runs_40 := rfl
theorem bk_X0_runs_46 : ev_prog.1 1409070 = b_X0_runs_46 := rfl
theorem ml_X0_runs : ev_prog.2.1 344 = 2 := rfl
theorem bk_X0_tellsRun_0 : ev_prog.1 1413120 = b_X0_tellsRun_0 := rfl
theorem bk_X0_tellsRun_2 : ev_prog.1 1413122 = b_X0_tellsRun_2 := rfl
theorem bk_X0_tellsRun_25 : ev_prog.1 1413145 = b_X0_tellsRun_25 := rfl
theorem bk_X0_tellsRun_27 : ev_prog.1 1413147 = b_X0_tellsRun_27 := rfl
theorem bk_X0_tellsRun_51 : ev_prog.1 1413171 = b_X0_tellsRun_51 := rfl
theorem ml_X0_tellsRun : ev_prog.2.1 345 = 2 := rfl
theorem bk_X0_run_0 : ev_prog.1 1417216 = b_X0_run_0 := rfl
theorem ml_X0_run : ev_prog.2.1 346 = 1 := rfl
theorem bk_X3_firstFrom_0 : ev_prog.1 1421312 = b_X3_firstFrom_0 := rfl
theorem bk_X3_firstFrom_10 : ev_prog.1 1421322 = b_X3_firstFrom_10 := rfl
theorem bk_X3_firstFrom_34 : ev_prog.1 1421346 = b_X3_firstFrom_34 := rfl
theorem bk_X3_firstFrom_35 : ev_prog.1 1421347 = b_X3_firstFrom_35 := rfl
theorem bk_X3_firstFrom_42 : ev_prog.1 1421354 = b_X3_firstFrom_42 := rfl
theorem ml_X3_firstFrom : ev_prog.2.1 347 = 5 := rfl
theorem bk_X3_begins_0 : ev_prog.1 1425408 = b_X3_begins_0 := rfl
theorem bk_X3_begins_12 : ev_prog.1 1425420 = b_X3_begins_12 := rfl
theorem bk_X3_begins_30 : ev_prog.1 1425438 = b_X3_begins_30 := rfl
theorem bk_X3_begins_32 : ev_prog.1 1425440 = b_X3_begins_32 := rfl
theorem bk_X3_begins_64 : ev_prog.1 1425472 = b_X3_begins_64 := rfl
theorem bk_X3_begins_66 : ev_prog.1 1425474 = b_X3_begins_66 := rfl
theorem bk_X3_begins_86 : ev_prog.1 1425494 = b_X3_begins_86 := rfl
theorem bk_X3_begins_88 : ev_prog.1 1425496 = b_X3_begins_88 := rfl
theorem bk_X3_begins_114 : ev_prog.1 1425522 = b_X3_begins_114 := rfl
theorem ml_X3_begins : ev_prog.2.1 348 = 2 := rfl
theorem bk_X3_lacksPlace_0 : ev_prog.1 1429504 = b_X3_lacksPlace_0 := rfl
theorem bk_X3_lacksPlace_25 : ev_prog.1 1429529 = b_X3_lacksPlace_25 := rfl
theorem bk_X3_lacksPlace_52 : ev_prog.1 1429556 = b_X3_lacksPlace_52 := rfl
theorem bk_X3_lacksPlace_53 : ev_prog.1 1429557 = b_X3_lacksPlace_53 := rfl
theorem ml_X3_lacksPlace : ev_prog.2.1 349 = 5 := rfl
theorem bk_X3_read_0 : ev_prog.1 1433600 = b_X3_read_0 := rfl
theorem bk_X3_read_16 : ev_prog.1 1433616 = b_X3_read_16 := rfl
theorem bk_X3_read_37 : ev_prog.1 1433637 = b_X3_read_37 := rfl
theorem bk_X3_read_78 : ev_prog.1 1433678 = b_X3_read_78 := rfl
theorem bk_X3_read_86 : ev_prog.1 1433686 = b_X3_read_86 := rfl
theorem bk_X3_read_118 : ev_prog.1 1433718 = b_X3_read_118 := rfl
theorem bk_X3_read_125 : ev_prog.1 1433725 = b_X3_read_125 := rfl
theorem ml_X3_read : ev_prog.2.1 350 = 5 := rfl
theorem bk_X3_formBy_0 : ev_prog.1 1437696 = b_X3_formBy_0 := rfl
theorem bk_X3_formBy_14 : ev_prog.1 1437710 = b_X3_formBy_14 := rfl
theorem bk_X3_formBy_25 : ev_prog.1 1437721 = b_X3_formBy_25 := rfl
theorem ml_X3_formBy : ev_prog.2.1 351 = 2 := rfl
theorem bk_X3_widthOf_0 : ev_prog.1 1441792 = b_X3_widthOf_0 := rfl
theorem bk_X3_widthOf_14 : ev_prog.1 1441806 = b_X3_widthOf_14 := rfl
theorem bk_X3_widthOf_38 : ev_prog.1 1441830 = b_X3_widthOf_38 := rfl
theorem bk_X3_widthOf_42 : ev_prog.1 1441834 = b_X3_widthOf_42 := rfl
theorem bk_X3_widthOf_43 : ev_prog.1 1441835 = b_X3_widthOf_43 := rfl
theorem bk_X3_widthOf_69 : ev_prog.1 1441861 = b_X3_widthOf_69 := rfl
theorem bk_X3_widthOf_70 : ev_prog.1 1441862 = b_X3_widthOf_70 := rfl
theorem bk_X3_widthOf_77 : ev_prog.1 1441869 = b_X3_widthOf_77 := rfl
theorem bk_X3_widthOf_94 : ev_prog.1 1441886 = b_X3_widthOf_94 := rfl
theorem bk_X3_widthOf_98 : ev_prog.1 1441890 = b_X3_widthOf_98 := rfl
theorem bk_X3_widthOf_99 : ev_prog.1 1441891 = b_X3_widthOf_99 := rfl
theorem ml_X3_widthOf : ev_prog.2.1 352 = 6 := rfl
theorem bk_X3_isInt_0 : ev_prog.1 1445888 = b_X3_isInt_0 := rfl
theorem bk_X3_isInt_20 : ev_prog.1 1445908 = b_X3_isInt_20 := rfl
theorem bk_X3_isInt_21 : ev_prog.1 1445909 = b_X3_isInt_21 := rfl
theorem ml_X3_isInt : ev_prog.2.1 353 = 2 := rfl
theorem bk_X3_byInts_0 : ev_prog.1 1449984 = b_X3_byInts_0 := rfl
theorem bk_X3_byInts_14 : ev_prog.1 1449998 = b_X3_byInts_14 := rfl
theorem bk_X3_byInts_19 : ev_prog.1 1450003 = b_X3_byInts_19 := rfl
theorem bk_X3_byInts_80 : ev_prog.1 1450064 = b_X3_byInts_80 := rfl
theorem bk_X3_byInts_84 : ev_prog.1 1450068 = b_X3_byInts_84 := rfl
theorem bk_X3_byInts_88 : ev_prog.1 1450072 = b_X3_byInts_88 := rfl
theorem bk_X3_byInts_92 : ev_prog.1 1450076 = b_X3_byInts_92 := rfl
theorem bk_X3_byInts_100 : ev_prog.1 1450084 = b_X3_byInts_100 := rfl
theorem bk_X3_byInts_103 : ev_prog.1 1450087 = b_X3_byInts_103 := rfl
theorem bk_X3_byInts_104 : ev_prog.1 1450088 = b_X3_byInts_104 := rfl
theorem bk_X3_byInts_113 : ev_prog.1 1450097 = b_X3_byInts_113 := rfl
theorem bk_X3_byInts_114 : ev_prog.1 1450098 = b_X3_byInts_114 := rfl
theorem bk_X3_byInts_115 : ev_prog.1 1450099 = b_X3_byInts_115 := rfl
theorem bk_X3_byInts_124 : ev_prog.1 1450108 = b_X3_byInts_124 := rfl
theorem bk_X3_byInts_125 : ev_prog.1 1450109 = b_X3_byInts_125 := rfl
theorem bk_X3_byInts_126 : ev_prog.1 1450110 = b_X3_byInts_126 := rfl
theorem bk_X3_byInts_130 : ev_prog.1 1450114 = b_X3_byInts_130 := rfl
theorem bk_X3_byInts_134 : ev_prog.1 1450118 = b_X3_byInts_134 := rfl
theorem bk_X3_byInts_138 : ev_prog.1 1450122 = b_X3_byInts_138 := rfl
theorem bk_X3_byInts_140 : ev_prog.1 1450124 = b_X3_byInts_140 := rfl
theorem bk_X3_byInts_150 : ev_prog.1 1450134 = b_X3_byInts_150 := rfl
theorem bk_X3_byInts_151 : ev_prog.1 1450135 = b_X3_byInts_151 := rfl
theorem bk_X3_byInts_156 : ev_prog.1 1450140 = b_X3_byInts_156 := rfl
theorem bk_X3_byInts_169 : ev_prog.1 1450153 = b_X3_byInts_169 := rfl
theorem bk_X3_byInts_170 : ev_prog.1 1450154 = b_X3_byInts_170 := rfl
theorem ml_X3_byInts : ev_prog.2.1 354 = 6 := rfl
theorem bk_X3_byFloats_0 : ev_prog.1 1454080 = b_X3_byFloats_0 := rfl
theorem bk_X3_byFloats_60 : ev_prog.1 1454140 = b_X3_byFloats_60 := rfl
theorem bk_X3_byFloats_68 : ev_prog.1 1454148 = b_X3_byFloats_68 := rfl
theorem bk_X3_byFloats_76 : ev_prog.1 1454156 = b_X3_byFloats_76 := rfl
theorem bk_X3_byFloats_84 : ev_prog.1 1454164 = b_X3_byFloats_84 := rfl
theorem bk_X3_byFloats_94 : ev_prog.1 1454174 = b_X3_byFloats_94 := rfl
theorem bk_X3_byFloats_97 : ev_prog.1 1454177 = b_X3_byFloats_97 := rfl
theorem bk_X3_byFloats_98 : ev_prog.1 1454178 = b_X3_byFloats_98 := rfl
theorem bk_X3_byFloats_108 : ev_prog.1 1454188 = b_X3_byFloats_108 := rfl
theorem bk_X3_byFloats_109 : ev_prog.1 1454189 = b_X3_byFloats_109 := rfl
theorem bk_X3_byFloats_110 : ev_prog.1 1454190 = b_X3_byFloats_110 := rfl
theorem bk_X3_byFloats_120 : ev_prog.1 1454200 = b_X3_byFloats_120 := rfl
theorem bk_X3_byFloats_121 : ev_prog.1 1454201 = b_X3_byFloats_121 := rfl
theorem bk_X3_byFloats_122 : ev_prog.1 1454202 = b_X3_byFloats_122 := rfl
theorem bk_X3_byFloats_133 : ev_prog.1 1454213 = b_X3_byFloats_133 := rfl
theorem bk_X3_byFloats_134 : ev_prog.1 1454214 = b_X3_byFloats_134 := rfl
theorem bk_X3_byFloats_139 : ev_prog.1 1454219 = b_X3_byFloats_139 := rfl
theorem ml_X3_byFloats : ev_prog.2.1 355 = 4 := rfl
theorem bk_X3_zeroed_0 : ev_prog.1 1458176 = b_X3_zeroed_0 := rfl
theorem bk_X3_zeroed_10 : ev_prog.1 1458186 = b_X3_zeroed_10 := rfl
theorem bk_X3_zeroed_11 : ev_prog.1 1458187 = b_X3_zeroed_11 := rfl
theorem ml_X3_zeroed : ev_prog.2.1 356 = 2 := rfl
theorem bk_X3_byDoubles_0 : ev_prog.1 1462272 = b_X3_byDoubles_0 := rfl
theorem bk_X3_byDoubles_60 : ev_prog.1 1462332 = b_X3_byDoubles_60 := rfl
theorem bk_X3_byDoubles_69 : ev_prog.1 1462341 = b_X3_byDoubles_69 := rfl
theorem bk_X3_byDoubles_78 : ev_prog.1 1462350 = b_X3_byDoubles_78 := rfl
theorem bk_X3_byDoubles_87 : ev_prog.1 1462359 = b_X3_byDoubles_87 := rfl
theorem bk_X3_byDoubles_98 : ev_prog.1 1462370 = b_X3_byDoubles_98 := rfl
theorem bk_X3_byDoubles_102 : ev_prog.1 1462374 = b_X3_byDoubles_102 := rfl
theorem bk_X3_byDoubles_103 : ev_prog.1 1462375 = b_X3_byDoubles_103 := rfl
theorem bk_X3_byDoubles_114 : ev_prog.1 1462386 = b_X3_byDoubles_114 := rfl
theorem bk_X3_byDoubles_116 : ev_prog.1 1462388 = b_X3_byDoubles_116 := rfl
theorem bk_X3_byDoubles_117 : ev_prog.1 1462389 = b_X3_byDoubles_117 := rfl
theorem bk_X3_byDoubles_128 : ev_prog.1 1462400 = b_X3_byDoubles_128 := rfl
theorem bk_X3_byDoubles_130 : ev_prog.1 1462402 = b_X3_byDoubles_130 := rfl
theorem bk_X3_byDoubles_131 : ev_prog.1 1462403 = b_X3_byDoubles_131 := rfl
theorem bk_X3_byDoubles_143 : ev_prog.1 1462415 = b_X3_byDoubles_143 := rfl
theorem bk_X3_byDoubles_144 : ev_prog.1 1462416 = b_X3_byDoubles_144 := rfl
theorem bk_X3_byDoubles_149 : ev_prog.1 1462421 = b_X3_byDoubles_149 := rfl
theorem ml_X3_byDoubles : ev_prog.2.1 357 = 6 := rfl
theorem bk_X3_does_0 : ev_prog.1 1466368 = b_X3_does_0 := rfl
theorem bk_X3_does_44 : ev_prog.1 1466412 = b_X3_does_44 := rfl
theorem bk_X3_does_57 : ev_prog.1 1466425 = b_X3_does_57 := rfl
theorem bk_X3_does_73 : ev_prog.1 1466441 = b_X3_does_73 := rfl
theorem ml_X3_does : ev_prog.2.1 358 = 7 := rfl
theorem bk_X3_castTo_0 : ev_prog.1 1470464 = b_X3_castTo_0 := rfl
theorem bk_X3_castTo_28 : ev_prog.1 1470492 = b_X3_castTo_28 := rfl
theorem bk_X3_castTo_33 : ev_prog.1 1470497 = b_X3_castTo_33 := rfl
theorem bk_X3_castTo_37 : ev_prog.1 1470501 = b_X3_castTo_37 := rfl
theorem bk_X3_castTo_44 : ev_prog.1 1470508 = b_X3_castTo_44 := rfl
theorem ml_X3_castTo : ev_prog.2.1 359 = 3 := rfl
theorem bk_X3_writes_0 : ev_prog.1 1474560 = b_X3_writes_0 := rfl
theorem bk_X3_writes_19 : ev_prog.1 1474579 = b_X3_writes_19 := rfl
theorem bk_X3_writes_20 : ev_prog.1 1474580 = b_X3_writes_20 := rfl
theorem bk_X3_writes_57 : ev_prog.1 1474617 = b_X3_writes_57 := rfl
theorem bk_X3_writes_94 : ev_prog.1 1474654 = b_X3_writes_94 := rfl
theorem bk_X3_writes_95 : ev_prog.1 1474655 = b_X3_writes_95 := rfl
theorem bk_X3_writes_96 : ev_prog.1 1474656 = b_X3_writes_96 := rfl
theorem ml_X3_writes : ev_prog.2.1 360 = 6 := rfl
theorem bk_X3_item_0 : ev_prog.1 1478656 = b_X3_item_0 := rfl
theorem bk_X3_item_40 : ev_prog.1 1478696 = b_X3_item_40 := rfl
theorem bk_X3_item_41 : ev_prog.1 1478697 = b_X3_item_41 := rfl
theorem bk_X3_item_64 : ev_prog.1 1478720 = b_X3_item_64 := rfl
theorem bk_X3_item_68 : ev_prog.1 1478724 = b_X3_item_68 := rfl
theorem bk_X3_item_91 : ev_prog.1 1478747 = b_X3_item_91 := rfl
theorem bk_X3_item_92 : ev_prog.1 1478748 = b_X3_item_92 := rfl
theorem bk_X3_item_117 : ev_prog.1 1478773 = b_X3_item_117 := rfl
theorem bk_X3_item_172 : ev_prog.1 1478828 = b_X3_item_172 := rfl
theorem ml_X3_item : ev_prog.2.1 361 = 11 := rfl
theorem bk_X3_steps_0 : ev_prog.1 1482752 = b_X3_steps_0 := rfl
theorem bk_X3_steps_43 : ev_prog.1 1482795 = b_X3_steps_43 := rfl
theorem bk_X3_steps_66 : ev_prog.1 1482818 = b_X3_steps_66 := rfl
theorem bk_X3_steps_74 : ev_prog.1 1482826 = b_X3_steps_74 := rfl
theorem bk_X3_steps_105 : ev_prog.1 1482857 = b_X3_steps_105 := rfl
theorem ml_X3_steps : ev_prog.2.1 362 = 5 := rfl
theorem bk_X3_runNow_0 : ev_prog.1 1486848 = b_X3_runNow_0 := rfl
theorem bk_X3_runNow_11 : ev_prog.1 1486859 = b_X3_runNow_11 := rfl
theorem bk_X3_runNow_19 : ev_prog.1 1486867 = b_X3_runNow_19 := rfl
theorem bk_X3_runNow_37 : ev_prog.1 1486885 = b_X3_runNow_37 := rfl
theorem bk_X3_runNow_43 : ev_prog.1 1486891 = b_X3_runNow_43 := rfl
theorem ml_X3_runNow : ev_prog.2.1 363 = 2 := rfl
theorem bk_X3_run_0 : ev_prog.1 1490944 = b_X3_run_0 := rfl
theorem ml_X3_run : ev_prog.2.1 364 = 1 := rfl
theorem bk_X0_isTwo_0 : ev_prog.1 1495040 = b_X0_isTwo_0 := rfl
theorem ml_X0_isTwo : ev_prog.2.1 365 = 1 := rfl
theorem bk_X0_isMix_0 : ev_prog.1 1499136 = b_X0_isMix_0 := rfl
theorem bk_X0_isMix_47 : ev_prog.1 1499183 = b_X0_isMix_47 := rfl
theorem bk_X0_isMix_48 : ev_prog.1 1499184 = b_X0_isMix_48 := rfl
theorem ml_X0_isMix : ev_prog.2.1 366 = 4 := rfl
theorem bk_X0_serialRows_0 : ev_prog.1 1503232 = b_X0_serialRows_0 := rfl
theorem bk_X0_serialRows_4 : ev_prog.1 1503236 = b_X0_serialRows_4 := rfl
theorem bk_X0_serialRows_24 : ev_prog.1 1503256 = b_X0_serialRows_24 := rfl
theorem bk_X0_serialRows_25 : ev_prog.1 1503257 = b_X0_serialRows_25 := rfl
theorem bk_X0_serialRows_33 : ev_prog.1 1503265 = b_X0_serialRows_33 := rfl
theorem ml_X0_serialRows : ev_prog.2.1 367 = 3 := rfl
theorem bk_X0_isParallel_0 : ev_prog.1 1507328 = b_X0_isParallel_0 := rfl
theorem bk_X0_isParallel_15 : ev_prog.1 1507343 = b_X0_isParallel_15 := rfl
theorem bk_X0_isParallel_16 : ev_prog.1 1507344 = b_X0_isParallel_16 := rfl
theorem ml_X0_isParallel : ev_prog.2.1 368 = 1 := rfl
theorem bk_X0_dealOf_0 : ev_prog.1 1511424 = b_X0_dealOf_0 := rfl
theorem bk_X0_dealOf_12 : ev_prog.1 1511436 = b_X0_dealOf_12 := rfl
theorem ml_X0_dealOf : ev_prog.2.1 369 = 4 := rfl
theorem bk_X0_lambda_dealOf_6_0 : ev_prog.1 1515520 = b_X0_lambda_dealOf_6_0 := rfl
theorem ml_X0_lambda_dealOf_6 : ev_prog.2.1 370 = 2 := rfl
theorem bk_X0_lambda_dealOf_7_0 : ev_prog.1 1519616 = b_X0_lambda_dealOf_7_0 := rfl
theorem ml_X0_lambda_dealOf_7 : ev_prog.2.1 371 = 2 := rfl
theorem bk_X0_next_0 : ev_prog.1 1523712 = b_X0_next_0 := rfl
theorem bk_X0_next_3 : ev_prog.1 1523715 = b_X0_next_3 := rfl
theorem bk_X0_next_28 : ev_prog.1 1523740 = b_X0_next_28 := rfl
theorem bk_X0_next_30 : ev_prog.1 1523742 = b_X0_next_30 := rfl
theorem bk_X0_next_65 : ev_prog.1 1523777 = b_X0_next_65 := rfl
theorem bk_X0_next_71 : ev_prog.1 1523783 = b_X0_next_71 := rfl
theorem ml_X0_next : ev_prog.2.1 372 = 6 := rfl
theorem bk_X0_gathererOf_0 : ev_prog.1 1527808 = b_X0_gathererOf_0 := rfl
theorem bk_X0_gathererOf_2 : ev_prog.1 1527810 = b_X0_gathererOf_2 := rfl
theorem bk_X0_gathererOf_47 : ev_prog.1 1527855 = b_X0_gathererOf_47 := rfl
theorem bk_X0_gathererOf_53 : ev_prog.1 1527861 = b_X0_gathererOf_53 := rfl
theorem ml_X0_gathererOf : ev_prog.2.1 373 = 3 := rfl
theorem bk_X0_comes_0 : ev_prog.1 1531904 = b_X0_comes_0 := rfl
theorem bk_X0_comes_66 : ev_prog.1 1531970 = b_X0_comes_66 := rfl
theorem bk_X0_comes_71 : ev_prog.1 1531975 = b_X0_comes_71 := rfl
theorem bk_X0_comes_102 : ev_prog.1 1532006 = b_X0_comes_102 := rfl
theorem ml_X0_comes : ev_prog.2.1 374 = 9 := rfl
theorem bk_X0_comesOut_0 : ev_prog.1 1536000 = b_X0_comesOut_0 := rfl
theorem bk_X0_comesOut_2 : ev_prog.1 1536002 = b_X0_comesOut_2 := rfl
theorem bk_X0_comesOut_30 : ev_prog.1 1536030 = b_X0_comesOut_30 := rfl
theorem bk_X0_comesOut_32 : ev_prog.1 1536032 = b_X0_comesOut_32 := rfl
theorem bk_X0_comesOut_47 : ev_prog.1 1536047 = b_X0_comesOut_47 := rfl
theorem bk_X0_comesOut_86 : ev_prog.1 1536086 = b_X0_comesOut_86 := rfl
theorem bk_X0_comesOut_92 : ev_prog.1 1536092 = b_X0_comesOut_92 := rfl
theorem bk_X0_comesOut_98 : ev_prog.1 1536098 = b_X0_comesOut_98 := rfl
theorem bk_X0_comesOut_104 : ev_prog.1 1536104 = b_X0_comesOut_104 := rfl
theorem ml_X0_comesOut : ev_prog.2.1 375 = 4 := rfl
theorem bk_X0_mixes_0 : ev_prog.1 1540096 = b_X0_mixes_0 := rfl
theorem bk_X0_mixes_25 : ev_prog.1 1540121 = b_X0_mixes_25 := rfl
theorem bk_X0_mixes_36 : ev_prog.1 1540132 = b_X0_mixes_36 := rfl
theorem bk_X0_mixes_56 : ev_prog.1 1540152 = b_X0_mixes_56 := rfl
theorem bk_X0_mixes_57 : ev_prog.1 1540153 = b_X0_mixes_57 := rfl
theorem bk_X0_mixes_70 : ev_prog.1 1540166 = b_X0_mixes_70 := rfl
theorem bk_X0_mixes_80 : ev_prog.1 1540176 = b_X0_mixes_80 := rfl
theorem bk_X0_mixes_86 : ev_prog.1 1540182 = b_X0_mixes_86 := rfl
theorem bk_X0_mixes_94 : ev_prog.1 1540190 = b_X0_mixes_94 := rfl
theorem bk_X0_mixes_122 : ev_prog.1 1540218 = b_X0_mixes_122 := rfl
theorem ml_X0_mixes : ev_prog.2.1 376 = 10 := rfl
theorem bk_X0_mixed_0 : ev_prog.1 1544192 = b_X0_mixed_0 := rfl
theorem bk_X0_mixed_14 : ev_prog.1 1544206 = b_X0_mixed_14 := rfl
theorem bk_X0_mixed_29 : ev_prog.1 1544221 = b_X0_mixed_29 := rfl
theorem ml_X0_mixed : ev_prog.2.1 377 = 5 := rfl
theorem bk_X3_serials_0 : ev_prog.1 1548288 = b_X3_serials_0 := rfl
theorem bk_X3_serials_4 : ev_prog.1 1548292 = b_X3_serials_4 := rfl
theorem bk_X3_serials_24 : ev_prog.1 1548312 = b_X3_serials_24 := rfl
theorem bk_X3_serials_25 : ev_prog.1 1548313 = b_X3_serials_25 := rfl
theorem bk_X3_serials_33 : ev_prog.1 1548321 = b_X3_serials_33 := rfl
theorem ml_X3_serials : ev_prog.2.1 378 = 3 := rfl
theorem bk_X3_mayMix_0 : ev_prog.1 1552384 = b_X3_mayMix_0 := rfl
theorem bk_X3_mayMix_38 : ev_prog.1 1552422 = b_X3_mayMix_38 := rfl
theorem bk_X3_mayMix_41 : ev_prog.1 1552425 = b_X3_mayMix_41 := rfl
theorem bk_X3_mayMix_58 : ev_prog.1 1552442 = b_X3_mayMix_58 := rfl
theorem bk_X3_mayMix_59 : ev_prog.1 1552443 = b_X3_mayMix_59 := rfl
theorem ml_X3_mayMix : ev_prog.2.1 379 = 5 := rfl
theorem bk_X3_turnOf_0 : ev_prog.1 1556480 = b_X3_turnOf_0 := rfl
theorem bk_X3_turnOf_18 : ev_prog.1 1556498 = b_X3_turnOf_18 := rfl
theorem bk_X3_turnOf_37 : ev_prog.1 1556517 = b_X3_turnOf_37 := rfl
theorem bk_X3_turnOf_46 : ev_prog.1 1556526 = b_X3_turnOf_46 := rfl
theorem bk_X3_turnOf_66 : ev_prog.1 1556546 = b_X3_turnOf_66 := rfl
theorem bk_X3_turnOf_70 : ev_prog.1 1556550 = b_X3_turnOf_70 := rfl
theorem bk_X3_turnOf_82 : ev_prog.1 1556562 = b_X3_turnOf_82 := rfl
theorem bk_X3_turnOf_83 : ev_prog.1 1556563 = b_X3_turnOf_83 := rfl
theorem bk_X3_turnOf_106 : ev_prog.1 1556586 = b_X3_turnOf_106 := rfl
theorem bk_X3_turnOf_108 : ev_prog.1 1556588 = b_X3_turnOf_108 := rfl
theorem bk_X3_turnOf_116 : ev_prog.1 1556596 = b_X3_turnOf_116 := rfl
theorem ml_X3_turnOf : ev_prog.2.1 380 = 9 := rfl
theorem bk_X3_left_0 : ev_prog.1 1560576 = b_X3_left_0 := rfl
theorem bk_X3_left_5 : ev_prog.1 1560581 = b_X3_left_5 := rfl
theorem bk_X3_left_28 : ev_prog.1 1560604 = b_X3_left_28 := rfl
theorem bk_X3_left_29 : ev_prog.1 1560605 = b_X3_left_29 := rfl
theorem bk_X3_left_37 : ev_prog.1 1560613 = b_X3_left_37 := rfl
theorem ml_X3_left : ev_prog.2.1 381 = 5 := rfl
theorem bk_X3_copiesOut_0 : ev_prog.1 1564672 = b_X3_copiesOut_0 := rfl
theorem bk_X3_copiesOut_2 : ev_prog.1 1564674 = b_X3_copiesOut_2 := rfl
theorem bk_X3_copiesOut_11 : ev_prog.1 1564683 = b_X3_copiesOut_11 := rfl
theorem bk_X3_copiesOut_59 : ev_prog.1 1564731 = b_X3_copiesOut_59 := rfl
theorem bk_X3_copiesOut_65 : ev_prog.1 1564737 = b_X3_copiesOut_65 := rfl
theorem bk_X3_copiesOut_71 : ev_prog.1 1564743 = b_X3_copiesOut_71 := rfl
theorem ml_X3_copiesOut : ev_prog.2.1 382 = 3 := rfl
theorem bk_X3_mixes_0 : ev_prog.1 1568768 = b_X3_mixes_0 := rfl
theorem bk_X3_mixes_3 : ev_prog.1 1568771 = b_X3_mixes_3 := rfl
theorem bk_X3_mixes_29 : ev_prog.1 1568797 = b_X3_mixes_29 := rfl
theorem bk_X3_mixes_49 : ev_prog.1 1568817 = b_X3_mixes_49 := rfl
theorem bk_X3_mixes_67 : ev_prog.1 1568835 = b_X3_mixes_67 := rfl
theorem bk_X3_mixes_99 : ev_prog.1 1568867 = b_X3_mixes_99 := rfl
theorem bk_X3_mixes_101 : ev_prog.1 1568869 = b_X3_mixes_101 := rfl
theorem bk_X3_mixes_115 : ev_prog.1 1568883 = b_X3_mixes_115 := rfl
theorem bk_X3_mixes_116 : ev_prog.1 1568884 = b_X3_mixes_116 := rfl
theorem bk_X3_mixes_125 : ev_prog.1 1568893 = b_X3_mixes_125 := rfl
theorem bk_X3_mixes_155 : ev_prog.1 1568923 = b_X3_mixes_155 := rfl
theorem ml_X3_mixes : ev_prog.2.1 383 = 10 := rfl
theorem bk_X3_mixed_0 : ev_prog.1 1572864 = b_X3_mixed_0 := rfl
theorem bk_X3_mixed_21 : ev_prog.1 1572885 = b_X3_mixed_21 := rfl
theorem bk_X3_mixed_28 : ev_prog.1 1572892 = b_X3_mixed_28 := rfl
theorem ml_X3_mixed : ev_prog.2.1 384 = 6 := rfl
theorem bk_X0_keeps_0 : ev_prog.1 1576960 = b_X0_keeps_0 := rfl
theorem bk_X0_keeps_2 : ev_prog.1 1576962 = b_X0_keeps_2 := rfl
theorem bk_X0_keeps_17 : ev_prog.1 1576977 = b_X0_keeps_17 := rfl
theorem bk_X0_keeps_51 : ev_prog.1 1577011 = b_X0_keeps_51 := rfl
theorem bk_X0_keeps_57 : ev_prog.1 1577017 = b_X0_keeps_57 := rfl
theorem ml_X0_keeps : ev_prog.2.1 385 = 5 := rfl
theorem bk_X0_keepsWriters_0 : ev_prog.1 1581056 = b_X0_keepsWriters_0 := rfl
theorem bk_X0_keepsWriters_2 : ev_prog.1 1581058 = b_X0_keepsWriters_2 := rfl
theorem bk_X0_keepsWriters_17 : ev_prog.1 1581073 = b_X0_keepsWriters_17 := rfl
theorem bk_X0_keepsWriters_52 : ev_prog.1 1581108 = b_X0_keepsWriters_52 := rfl
theorem bk_X0_keepsWriters_58 : ev_prog.1 1581114 = b_X0_keepsWriters_58 := rfl
theorem ml_X0_keepsWriters : ev_prog.2.1 386 = 4 := rfl
theorem bk_X0_takesBack_0 : ev_prog.1 1585152 = b_X0_takesBack_0 := rfl
theorem bk_X0_takesBack_2 : ev_prog.1 1585154 = b_X0_takesBack_2 := rfl
theorem bk_X0_takesBack_16 : ev_prog.1 1585168 = b_X0_takesBack_16 := rfl
theorem bk_X0_takesBack_50 : ev_prog.1 1585202 = b_X0_takesBack_50 := rfl
theorem bk_X0_takesBack_56 : ev_prog.1 1585208 = b_X0_takesBack_56 := rfl
theorem ml_X0_takesBack : ev_prog.2.1 387 = 4 := rfl
theorem bk_X0_isFound_0 : ev_prog.1 1589248 = b_X0_isFound_0 := rfl
theorem bk_X0_isFound_2 : ev_prog.1 1589250 = b_X0_isFound_2 := rfl
theorem bk_X0_isFound_16 : ev_prog.1 1589264 = b_X0_isFound_16 := rfl
theorem bk_X0_isFound_50 : ev_prog.1 1589298 = b_X0_isFound_50 := rfl
theorem bk_X0_isFound_56 : ev_prog.1 1589304 = b_X0_isFound_56 := rfl
theorem bk_X0_isFound_62 : ev_prog.1 1589310 = b_X0_isFound_62 := rfl
theorem ml_X0_isFound : ev_prog.2.1 388 = 4 := rfl
theorem bk_X0_sameBy_0 : ev_prog.1 1593344 = b_X0_sameBy_0 := rfl
theorem bk_X0_sameBy_118 : ev_prog.1 1593462 = b_X0_sameBy_118 := rfl
theorem bk_X0_sameBy_119 : ev_prog.1 1593463 = b_X0_sameBy_119 := rfl
theorem bk_X0_sameBy_128 : ev_prog.1 1593472 = b_X0_sameBy_128 := rfl
theorem bk_X0_sameBy_147 : ev_prog.1 1593491 = b_X0_sameBy_147 := rfl
theorem bk_X0_sameBy_189 : ev_prog.1 1593533 = b_X0_sameBy_189 := rfl
theorem bk_X0_sameBy_195 : ev_prog.1 1593539 = b_X0_sameBy_195 := rfl
theorem bk_X0_sameBy_198 : ev_prog.1 1593542 = b_X0_sameBy_198 := rfl
theorem bk_X0_sameBy_207 : ev_prog.1 1593551 = b_X0_sameBy_207 := rfl
theorem bk_X0_sameBy_226 : ev_prog.1 1593570 = b_X0_sameBy_226 := rfl
theorem bk_X0_sameBy_268 : ev_prog.1 1593612 = b_X0_sameBy_268 := rfl
theorem bk_X0_sameBy_274 : ev_prog.1 1593618 = b_X0_sameBy_274 := rfl
theorem ml_X0_sameBy : ev_prog.2.1 389 = 16 := rfl
theorem bk_X0_same_0 : ev_prog.1 1597440 = b_X0_same_0 := rfl
theorem bk_X0_same_14 : ev_prog.1 1597454 = b_X0_same_14 := rfl
theorem bk_X0_same_31 : ev_prog.1 1597471 = b_X0_same_31 := rfl
theorem bk_X0_same_38 : ev_prog.1 1597478 = b_X0_same_38 := rfl
theorem ml_X0_same : ev_prog.2.1 390 = 5 := rfl
theorem bk_X3_sameNow_0 : ev_prog.1 1601536 = b_X3_sameNow_0 := rfl
theorem bk_X3_sameNow_15 : ev_prog.1 1601551 = b_X3_sameNow_15 := rfl
theorem bk_X3_sameNow_57 : ev_prog.1 1601593 = b_X3_sameNow_57 := rfl
theorem bk_X3_sameNow_60 : ev_prog.1 1601596 = b_X3_sameNow_60 := rfl
theorem bk_X3_sameNow_87 : ev_prog.1 1601623 = b_X3_sameNow_87 := rfl
theorem bk_X3_sameNow_90 : ev_prog.1 1601626 = b_X3_sameNow_90 := rfl
theorem bk_X3_sameNow_116 : ev_prog.1 1601652 = b_X3_sameNow_116 := rfl
theorem bk_X3_sameNow_125 : ev_prog.1 1601661 = b_X3_sameNow_125 := rfl
theorem bk_X3_sameNow_151 : ev_prog.1 1601687 = b_X3_sameNow_151 := rfl
theorem bk_X3_sameNow_154 : ev_prog.1 1601690 = b_X3_sameNow_154 := rfl
theorem bk_X3_sameNow_196 : ev_prog.1 1601732 = b_X3_sameNow_196 := rfl
theorem bk_X3_sameNow_212 : ev_prog.1 1601748 = b_X3_sameNow_212 := rfl
theorem bk_X3_sameNow_213 : ev_prog.1 1601749 = b_X3_sameNow_213 := rfl
theorem bk_X3_sameNow_218 : ev_prog.1 1601754 = b_X3_sameNow_218 := rfl
theorem bk_X3_sameNow_250 : ev_prog.1 1601786 = b_X3_sameNow_250 := rfl
theorem bk_X3_sameNow_251 : ev_prog.1 1601787 = b_X3_sameNow_251 := rfl
theorem bk_X3_sameNow_273 : ev_prog.1 1601809 = b_X3_sameNow_273 := rfl
theorem bk_X3_sameNow_276 : ev_prog.1 1601812 = b_X3_sameNow_276 := rfl
theorem bk_X3_sameNow_311 : ev_prog.1 1601847 = b_X3_sameNow_311 := rfl
theorem bk_X3_sameNow_312 : ev_prog.1 1601848 = b_X3_sameNow_312 := rfl
theorem bk_X3_sameNow_348 : ev_prog.1 1601884 = b_X3_sameNow_348 := rfl
theorem bk_X3_sameNow_351 : ev_prog.1 1601887 = b_X3_sameNow_351 := rfl
theorem bk_X3_sameNow_378 : ev_prog.1 1601914 = b_X3_sameNow_378 := rfl
theorem bk_X3_sameNow_399 : ev_prog.1 1601935 = b_X3_sameNow_399 := rfl
theorem bk_X3_sameNow_400 : ev_prog.1 1601936 = b_X3_sameNow_400 := rfl
theorem ml_X3_sameNow : ev_prog.2.1 391 = 9 := rfl
theorem bk_X3_same_0 : ev_prog.1 1605632 = b_X3_same_0 := rfl
theorem bk_X3_same_21 : ev_prog.1 1605653 = b_X3_same_21 := rfl
theorem bk_X3_same_28 : ev_prog.1 1605660 = b_X3_same_28 := rfl
theorem ml_X3_same : ev_prog.2.1 392 = 6 := rfl
theorem bk_X0_faults_0 : ev_prog.1 1609728 = b_X0_faults_0 := rfl
theorem bk_X0_faults_21 : ev_prog.1 1609749 = b_X0_faults_21 := rfl
theorem bk_X0_faults_23 : ev_prog.1 1609751 = b_X0_faults_23 := rfl
theorem ml_X0_faults : ev_prog.2.1 393 = 2 := rfl
theorem bk_X3_faults_0 : ev_prog.1 1613824 = b_X3_faults_0 := rfl
theorem bk_X3_faults_18 : ev_prog.1 1613842 = b_X3_faults_18 := rfl
theorem bk_X3_faults_20 : ev_prog.1 1613844 = b_X3_faults_20 := rfl
theorem ml_X3_faults : ev_prog.2.1 394 = 2 := rfl
theorem bk_X0_endedBy_0 : ev_prog.1 1617920 = b_X0_endedBy_0 := rfl
theorem bk_X0_endedBy_17 : ev_prog.1 1617937 = b_X0_endedBy_17 := rfl
theorem bk_X0_endedBy_18 : ev_prog.1 1617938 = b_X0_endedBy_18 := rfl
theorem ml_X0_endedBy : ev_prog.2.1 395 = 2 := rfl
theorem bk_X0_ended_0 : ev_prog.1 1622016 = b_X0_ended_0 := rfl
theorem bk_X0_ended_20 : ev_prog.1 1622036 = b_X0_ended_20 := rfl
theorem bk_X0_ended_22 : ev_prog.1 1622038 = b_X0_ended_22 := rfl
theorem ml_X0_ended : ev_prog.2.1 396 = 2 := rfl
theorem bk_X3_ended_0 : ev_prog.1 1626112 = b_X3_ended_0 := rfl
theorem bk_X3_ended_15 : ev_prog.1 1626127 = b_X3_ended_15 := rfl
theorem bk_X3_ended_32 : ev_prog.1 1626144 = b_X3_ended_32 := rfl
theorem bk_X3_ended_33 : ev_prog.1 1626145 = b_X3_ended_33 := rfl
theorem ml_X3_ended : ev_prog.2.1 397 = 2 := rfl
theorem bk_X0_writer_0 : ev_prog.1 1630208 = b_X0_writer_0 := rfl
theorem bk_X0_writer_10 : ev_prog.1 1630218 = b_X0_writer_10 := rfl
theorem bk_X0_writer_22 : ev_prog.1 1630230 = b_X0_writer_22 := rfl
theorem bk_X0_writer_29 : ev_prog.1 1630237 = b_X0_writer_29 := rfl
theorem ml_X0_writer : ev_prog.2.1 398 = 4 := rfl
theorem bk_X3_writer_0 : ev_prog.1 1634304 = b_X3_writer_0 := rfl
theorem bk_X3_writer_10 : ev_prog.1 1634314 = b_X3_writer_10 := rfl
theorem bk_X3_writer_29 : ev_prog.1 1634333 = b_X3_writer_29 := rfl
theorem bk_X3_writer_40 : ev_prog.1 1634344 = b_X3_writer_40 := rfl
theorem ml_X3_writer : ev_prog.2.1 399 = 4 := rfl
theorem bk_X0_serialNow_0 : ev_prog.1 1638400 = b_X0_serialNow_0 := rfl
theorem ml_X0_serialNow : ev_prog.2.1 400 = 1 := rfl
theorem bk_X0_missing_0 : ev_prog.1 1642496 = b_X0_missing_0 := rfl
theorem bk_X0_missing_13 : ev_prog.1 1642509 = b_X0_missing_13 := rfl
theorem bk_X0_missing_35 : ev_prog.1 1642531 = b_X0_missing_35 := rfl
theorem bk_X0_missing_36 : ev_prog.1 1642532 = b_X0_missing_36 := rfl
theorem bk_X0_missing_44 : ev_prog.1 1642540 = b_X0_missing_44 := rfl
theorem ml_X0_missing : ev_prog.2.1 401 = 6 := rfl
theorem bk_X0_count_0 : ev_prog.1 1646592 = b_X0_count_0 := rfl
theorem bk_X0_count_52 : ev_prog.1 1646644 = b_X0_count_52 := rfl
theorem bk_X0_count_57 : ev_prog.1 1646649 = b_X0_count_57 := rfl
theorem bk_X0_count_65 : ev_prog.1 1646657 = b_X0_count_65 := rfl
theorem bk_X0_count_73 : ev_prog.1 1646665 = b_X0_count_73 := rfl
theorem bk_X0_count_78 : ev_prog.1 1646670 = b_X0_count_78 := rfl
theorem bk_X0_count_89 : ev_prog.1 1646681 = b_X0_count_89 := rfl
theorem bk_X0_count_90 : ev_prog.1 1646682 = b_X0_count_90 := rfl
theorem bk_X0_count_91 : ev_prog.1 1646683 = b_X0_count_91 := rfl
theorem bk_X0_count_96 : ev_prog.1 1646688 = b_X0_count_96 := rfl
theorem bk_X0_count_101 : ev_prog.1 1646693 = b_X0_count_101 := rfl
theorem bk_X0_count_106 : ev_prog.1 1646698 = b_X0_count_106 := rfl
theorem bk_X0_count_111 : ev_prog.1 1646703 = b_X0_count_111 := rfl
theorem ml_X0_count : ev_prog.2.1 402 = 2 := rfl
theorem bk_X3_missing_0 : ev_prog.1 1650688 = b_X3_missing_0 := rfl
theorem bk_X3_missing_4 : ev_prog.1 1650692 = b_X3_missing_4 := rfl
theorem bk_X3_missing_25 : ev_prog.1 1650713 = b_X3_missing_25 := rfl
theorem bk_X3_missing_26 : ev_prog.1 1650714 = b_X3_missing_26 := rfl
theorem bk_X3_missing_34 : ev_prog.1 1650722 = b_X3_missing_34 := rfl
theorem ml_X3_missing : ev_prog.2.1 403 = 3 := rfl
theorem bk_X3_count_0 : ev_prog.1 1654784 = b_X3_count_0 := rfl
theorem bk_X3_count_52 : ev_prog.1 1654836 = b_X3_count_52 := rfl
theorem bk_X3_count_57 : ev_prog.1 1654841 = b_X3_count_57 := rfl
theorem bk_X3_count_62 : ev_prog.1 1654846 = b_X3_count_62 := rfl
theorem bk_X3_count_67 : ev_prog.1 1654851 = b_X3_count_67 := rfl
theorem bk_X3_count_72 : ev_prog.1 1654856 = b_X3_count_72 := rfl
theorem bk_X3_count_83 : ev_prog.1 1654867 = b_X3_count_83 := rfl
theorem bk_X3_count_84 : ev_prog.1 1654868 = b_X3_count_84 := rfl
theorem bk_X3_count_85 : ev_prog.1 1654869 = b_X3_count_85 := rfl
theorem bk_X3_count_90 : ev_prog.1 1654874 = b_X3_count_90 := rfl
theorem bk_X3_count_95 : ev_prog.1 1654879 = b_X3_count_95 := rfl
theorem bk_X3_count_100 : ev_prog.1 1654884 = b_X3_count_100 := rfl
theorem bk_X3_count_105 : ev_prog.1 1654889 = b_X3_count_105 := rfl
theorem ml_X3_count : ev_prog.2.1 404 = 2 := rfl
theorem bk_X0_tellsOf_0 : ev_prog.1 1658880 = b_X0_tellsOf_0 := rfl
theorem bk_X0_tellsOf_6 : ev_prog.1 1658886 = b_X0_tellsOf_6 := rfl
theorem bk_X0_tellsOf_45 : ev_prog.1 1658925 = b_X0_tellsOf_45 := rfl
theorem bk_X0_tellsOf_48 : ev_prog.1 1658928 = b_X0_tellsOf_48 := rfl
theorem bk_X0_tellsOf_57 : ev_prog.1 1658937 = b_X0_tellsOf_57 := rfl
theorem bk_X0_tellsOf_100 : ev_prog.1 1658980 = b_X0_tellsOf_100 := rfl
theorem bk_X0_tellsOf_111 : ev_prog.1 1658991 = b_X0_tellsOf_111 := rfl
theorem bk_X0_tellsOf_161 : ev_prog.1 1659041 = b_X0_tellsOf_161 := rfl
theorem bk_X0_tellsOf_167 : ev_prog.1 1659047 = b_X0_tellsOf_167 := rfl
theorem bk_X0_tellsOf_170 : ev_prog.1 1659050 = b_X0_tellsOf_170 := rfl
theorem bk_X0_tellsOf_203 : ev_prog.1 1659083 = b_X0_tellsOf_203 := rfl
theorem ml_X0_tellsOf : ev_prog.2.1 405 = 9 := rfl
theorem bk_X0_tellsRow_0 : ev_prog.1 1662976 = b_X0_tellsRow_0 := rfl
theorem bk_X0_tellsRow_17 : ev_prog.1 1662993 = b_X0_tellsRow_17 := rfl
theorem bk_X0_tellsRow_46 : ev_prog.1 1663022 = b_X0_tellsRow_46 := rfl
theorem bk_X0_tellsRow_49 : ev_prog.1 1663025 = b_X0_tellsRow_49 := rfl
theorem bk_X0_tellsRow_100 : ev_prog.1 1663076 = b_X0_tellsRow_100 := rfl
theorem bk_X0_tellsRow_137 : ev_prog.1 1663113 = b_X0_tellsRow_137 := rfl
theorem bk_X0_tellsRow_143 : ev_prog.1 1663119 = b_X0_tellsRow_143 := rfl
theorem ml_X0_tellsRow : ev_prog.2.1 406 = 8 := rfl
theorem bk_X0_tellsCells_0 : ev_prog.1 1667072 = b_X0_tellsCells_0 := rfl
theorem bk_X0_tellsCells_6 : ev_prog.1 1667078 = b_X0_tellsCells_6 := rfl
theorem bk_X0_tellsCells_112 : ev_prog.1 1667184 = b_X0_tellsCells_112 := rfl
theorem ml_X0_tellsCells : ev_prog.2.1 407 = 7 := rfl
theorem bk_X0_digest_0 : ev_prog.1 1671168 = b_X0_digest_0 := rfl
theorem bk_X0_digest_6 : ev_prog.1 1671174 = b_X0_digest_6 := rfl
theorem bk_X0_digest_31 : ev_prog.1 1671199 = b_X0_digest_31 := rfl
theorem bk_X0_digest_33 : ev_prog.1 1671201 = b_X0_digest_33 := rfl
theorem bk_X0_digest_57 : ev_prog.1 1671225 = b_X0_digest_57 := rfl
theorem bk_X0_digest_63 : ev_prog.1 1671231 = b_X0_digest_63 := rfl
theorem bk_X0_digest_82 : ev_prog.1 1671250 = b_X0_digest_82 := rfl
theorem bk_X0_digest_84 : ev_prog.1 1671252 = b_X0_digest_84 := rfl
theorem bk_X0_digest_106 : ev_prog.1 1671274 = b_X0_digest_106 := rfl
theorem bk_X0_digest_112 : ev_prog.1 1671280 = b_X0_digest_112 := rfl
theorem bk_X0_digest_114 : ev_prog.1 1671282 = b_X0_digest_114 := rfl
theorem bk_X0_digest_139 : ev_prog.1 1671307 = b_X0_digest_139 := rfl
theorem bk_X0_digest_141 : ev_prog.1 1671309 = b_X0_digest_141 := rfl
theorem bk_X0_digest_166 : ev_prog.1 1671334 = b_X0_digest_166 := rfl
theorem ml_X0_digest : ev_prog.2.1 408 = 4 := rfl
theorem bk_X3_statementDigest_0 : ev_prog.1 1675264 = b_X3_statementDigest_0 := rfl
theorem bk_X3_statementDigest_6 : ev_prog.1 1675270 = b_X3_statementDigest_6 := rfl
theorem bk_X3_statementDigest_36 : ev_prog.1 1675300 = b_X3_statementDigest_36 := rfl
theorem bk_X3_statementDigest_41 : ev_prog.1 1675305 = b_X3_statementDigest_41 := rfl
theorem bk_X3_statementDigest_54 : ev_prog.1 1675318 = b_X3_statementDigest_54 := rfl
theorem bk_X3_statementDigest_84 : ev_prog.1 1675348 = b_X3_statementDigest_84 := rfl
theorem bk_X3_statementDigest_87 : ev_prog.1 1675351 = b_X3_statementDigest_87 := rfl
theorem bk_X3_statementDigest_136 : ev_prog.1 1675400 = b_X3_statementDigest_136 := rfl
theorem bk_X3_statementDigest_142 : ev_prog.1 1675406 = b_X3_statementDigest_142 := rfl
theorem bk_X3_statementDigest_145 : ev_prog.1 1675409 = b_X3_statementDigest_145 := rfl
theorem bk_X3_statementDigest_175 : ev_prog.1 1675439 = b_X3_statementDigest_175 := rfl
theorem ml_X3_statementDigest : ev_prog.2.1 409 = 8 := rfl
theorem bk_X3_rowDigest_0 : ev_prog.1 1679360 = b_X3_rowDigest_0 := rfl
theorem bk_X3_rowDigest_17 : ev_prog.1 1679377 = b_X3_rowDigest_17 := rfl
theorem bk_X3_rowDigest_46 : ev_prog.1 1679406 = b_X3_rowDigest_46 := rfl
theorem bk_X3_rowDigest_49 : ev_prog.1 1679409 = b_X3_rowDigest_49 := rfl
theorem bk_X3_rowDigest_99 : ev_prog.1 1679459 = b_X3_rowDigest_99 := rfl
theorem bk_X3_rowDigest_136 : ev_prog.1 1679496 = b_X3_rowDigest_136 := rfl
theorem bk_X3_rowDigest_142 : ev_prog.1 1679502 = b_X3_rowDigest_142 := rfl
theorem ml_X3_rowDigest : ev_prog.2.1 410 = 9 := rfl
theorem bk_X3_cellsDigest_0 : ev_prog.1 1683456 = b_X3_cellsDigest_0 := rfl
theorem bk_X3_cellsDigest_6 : ev_prog.1 1683462 = b_X3_cellsDigest_6 := rfl
theorem bk_X3_cellsDigest_111 : ev_prog.1 1683567 = b_X3_cellsDigest_111 := rfl
theorem ml_X3_cellsDigest : ev_prog.2.1 411 = 7 := rfl
theorem bk_X3_digest_0 : ev_prog.1 1687552 = b_X3_digest_0 := rfl
theorem bk_X3_digest_6 : ev_prog.1 1687558 = b_X3_digest_6 := rfl
theorem bk_X3_digest_31 : ev_prog.1 1687583 = b_X3_digest_31 := rfl
theorem bk_X3_digest_33 : ev_prog.1 1687585 = b_X3_digest_33 := rfl
theorem bk_X3_digest_54 : ev_prog.1 1687606 = b_X3_digest_54 := rfl
theorem bk_X3_digest_56 : ev_prog.1 1687608 = b_X3_digest_56 := rfl
theorem bk_X3_digest_75 : ev_prog.1 1687627 = b_X3_digest_75 := rfl
theorem bk_X3_digest_77 : ev_prog.1 1687629 = b_X3_digest_77 := rfl
theorem bk_X3_digest_96 : ev_prog.1 1687648 = b_X3_digest_96 := rfl
theorem bk_X3_digest_98 : ev_prog.1 1687650 = b_X3_digest_98 := rfl
theorem bk_X3_digest_123 : ev_prog.1 1687675 = b_X3_digest_123 := rfl
theorem bk_X3_digest_125 : ev_prog.1 1687677 = b_X3_digest_125 := rfl
theorem bk_X3_digest_150 : ev_prog.1 1687702 = b_X3_digest_150 := rfl
theorem ml_X3_digest : ev_prog.2.1 412 = 4 := rfl
theorem bk_L_law_0 : ev_prog.1 1691648 = b_L_law_0 := rfl
theorem bk_L_law_18 : ev_prog.1 1691666 = b_L_law_18 := rfl
theorem bk_L_law_188 : ev_prog.1 1691836 = b_L_law_188 := rfl
theorem bk_L_law_231 : ev_prog.1 1691879 = b_L_law_231 := rfl
theorem bk_L_law_254 : ev_prog.1 1691902 = b_L_law_254 := rfl
theorem bk_L_law_307 : ev_prog.1 1691955 = b_L_law_307 := rfl
theorem bk_L_law_341 : ev_prog.1 1691989 = b_L_law_341 := rfl
theorem bk_L_law_404 : ev_prog.1 1692052 = b_L_law_404 := rfl
theorem bk_L_law_427 : ev_prog.1 1692075 = b_L_law_427 := rfl
theorem bk_L_law_450 : ev_prog.1 1692098 = b_L_law_450 := rfl
theorem bk_L_law_463 : ev_prog.1 1692111 = b_L_law_463 := rfl
theorem bk_L_law_486 : ev_prog.1 1692134 = b_L_law_486 := rfl
theorem bk_L_law_529 : ev_prog.1 1692177 = b_L_law_529 := rfl
theorem bk_L_law_592 : ev_prog.1 1692240 = b_L_law_592 := rfl
theorem bk_L_law_635 : ev_prog.1 1692283 = b_L_law_635 := rfl
theorem bk_L_law_668 : ev_prog.1 1692316 = b_L_law_668 := rfl
theorem bk_L_law_681 : ev_prog.1 1692329 = b_L_law_681 := rfl
theorem bk_L_law_714 : ev_prog.1 1692362 = b_L_law_714 := rfl
theorem bk_L_law_757 : ev_prog.1 1692405 = b_L_law_757 := rfl
theorem bk_L_law_800 : ev_prog.1 1692448 = b_L_law_800 := rfl
theorem bk_L_law_863 : ev_prog.1 1692511 = b_L_law_863 := rfl
theorem bk_L_law_896 : ev_prog.1 1692544 = b_L_law_896 := rfl
theorem bk_L_law_949 : ev_prog.1 1692597 = b_L_law_949 := rfl
theorem bk_L_law_992 : ev_prog.1 1692640 = b_L_law_992 := rfl
theorem bk_L_law_1035 : ev_prog.1 1692683 = b_L_law_1035 := rfl
theorem bk_L_law_1098 : ev_prog.1 1692746 = b_L_law_1098 := rfl
theorem bk_L_law_1121 : ev_prog.1 1692769 = b_L_law_1121 := rfl
theorem bk_L_law_1154 : ev_prog.1 1692802 = b_L_law_1154 := rfl
theorem bk_L_law_1187 : ev_prog.1 1692835 = b_L_law_1187 := rfl
theorem bk_L_law_1230 : ev_prog.1 1692878 = b_L_law_1230 := rfl
theorem bk_L_law_1243 : ev_prog.1 1692891 = b_L_law_1243 := rfl
theorem bk_L_law_1296 : ev_prog.1 1692944 = b_L_law_1296 := rfl
theorem bk_L_law_1349 : ev_prog.1 1692997 = b_L_law_1349 := rfl
theorem bk_L_law_1372 : ev_prog.1 1693020 = b_L_law_1372 := rfl
theorem bk_L_law_1395 : ev_prog.1 1693043 = b_L_law_1395 := rfl
theorem bk_L_law_1428 : ev_prog.1 1693076 = b_L_law_1428 := rfl
theorem bk_L_law_1451 : ev_prog.1 1693099 = b_L_law_1451 := rfl
theorem bk_L_law_1465 : ev_prog.1 1693113 = b_L_law_1465 := rfl
theorem bk_L_law_1471 : ev_prog.1 1693119 = b_L_law_1471 := rfl
theorem ml_L_law : ev_prog.2.1 413 = 4 := rfl
